section
-- ===== PART A: goes FIRST, ahead of the names: the tables' words, and 'selects' of the hidden methods out of them =====
/-- a hidden method of a kind that the tables say can be made, by its rows of tables_1 -/
def lw_okq (q : MethodName × Nat) : Prop := (q.1.cls ≠ "java/lang/invoke/MethodHandle" ∧ q.1.cls ≠ "java/lang/invoke/VarHandle") ∧ Cond.instantiable q.1.cls q.2 ∈ tables_1 ∧ Cond.privateMethod q.1 ∈ tables_1 ∧ Cond.instanceMethod q.1 ∈ tables_1
set_option maxRecDepth 100000
theorem lw_t1 {w : Cond} (h : w ∈ tables_1_1) : w ∈ tables_1 := List.mem_append_left _ h
theorem lw_t2 {w : Cond} (h : w ∈ tables_1_2) : w ∈ tables_1 := List.mem_append_right _ h
theorem lw_p0 : lw_okq (⟨"SeatShares", "badVotes", "(I)Z"⟩, 7) := ⟨⟨by decide +kernel, by decide +kernel⟩, lw_t1 (List.mem_of_getElem? (i := 4) rfl), lw_t1 (List.mem_of_getElem? (i := 40) rfl), lw_t1 (List.mem_of_getElem? (i := 41) rfl)⟩
theorem lw_p1 : lw_okq (⟨"SeatShares", "missingList", "(I)Z"⟩, 7) := ⟨⟨by decide +kernel, by decide +kernel⟩, lw_t1 (List.mem_of_getElem? (i := 4) rfl), lw_t1 (List.mem_of_getElem? (i := 48) rfl), lw_t1 (List.mem_of_getElem? (i := 49) rfl)⟩
theorem lw_p2 : lw_okq (⟨"SeatShares", "allVotes", "()I"⟩, 7) := ⟨⟨by decide +kernel, by decide +kernel⟩, lw_t1 (List.mem_of_getElem? (i := 4) rfl), lw_t1 (List.mem_of_getElem? (i := 64) rfl), lw_t1 (List.mem_of_getElem? (i := 65) rfl)⟩
theorem lw_p3 : lw_okq (⟨"SeatShares", "badRule", "(I)Z"⟩, 7) := ⟨⟨by decide +kernel, by decide +kernel⟩, lw_t1 (List.mem_of_getElem? (i := 4) rfl), lw_t1 (List.mem_of_getElem? (i := 80) rfl), lw_t1 (List.mem_of_getElem? (i := 81) rfl)⟩
theorem lw_p4 : lw_okq (⟨"SeatShares", "shareOut", "(II)V"⟩, 7) := ⟨⟨by decide +kernel, by decide +kernel⟩, lw_t1 (List.mem_of_getElem? (i := 4) rfl), lw_t1 (List.mem_of_getElem? (i := 84) rfl), lw_t1 (List.mem_of_getElem? (i := 85) rfl)⟩
theorem lw_p5 : lw_okq (⟨"SeatShares", "shareByQuotients", "(III)V"⟩, 7) := ⟨⟨by decide +kernel, by decide +kernel⟩, lw_t1 (List.mem_of_getElem? (i := 4) rfl), lw_t1 (List.mem_of_getElem? (i := 88) rfl), lw_t1 (List.mem_of_getElem? (i := 89) rfl)⟩
theorem lw_p6 : lw_okq (⟨"SeatShares", "startShare", "(IIII)I"⟩, 7) := ⟨⟨by decide +kernel, by decide +kernel⟩, lw_t1 (List.mem_of_getElem? (i := 4) rfl), lw_t1 (List.mem_of_getElem? (i := 92) rfl), lw_t1 (List.mem_of_getElem? (i := 93) rfl)⟩
theorem lw_p7 : lw_okq (⟨"SeatShares", "worth", "(II)J"⟩, 7) := ⟨⟨by decide +kernel, by decide +kernel⟩, lw_t1 (List.mem_of_getElem? (i := 4) rfl), lw_t1 (List.mem_of_getElem? (i := 99) rfl), lw_t1 (List.mem_of_getElem? (i := 100) rfl)⟩
theorem lw_p8 : lw_okq (⟨"SeatShares", "divisor", "(II)I"⟩, 7) := ⟨⟨by decide +kernel, by decide +kernel⟩, lw_t1 (List.mem_of_getElem? (i := 4) rfl), lw_t1 (List.mem_of_getElem? (i := 103) rfl), lw_t1 (List.mem_of_getElem? (i := 104) rfl)⟩
theorem lw_p9 : lw_okq (⟨"SeatShares", "lastTaken", "(I)I"⟩, 7) := ⟨⟨by decide +kernel, by decide +kernel⟩, lw_t1 (List.mem_of_getElem? (i := 4) rfl), lw_t1 (List.mem_of_getElem? (i := 107) rfl), lw_t1 (List.mem_of_getElem? (i := 108) rfl)⟩
theorem lw_p10 : lw_okq (⟨"SeatShares", "before", "(IIIII)Z"⟩, 7) := ⟨⟨by decide +kernel, by decide +kernel⟩, lw_t1 (List.mem_of_getElem? (i := 4) rfl), lw_t1 (List.mem_of_getElem? (i := 111) rfl), lw_t1 (List.mem_of_getElem? (i := 112) rfl)⟩
theorem lw_p11 : lw_okq (⟨"SeatShares", "firstNext", "(I)I"⟩, 7) := ⟨⟨by decide +kernel, by decide +kernel⟩, lw_t1 (List.mem_of_getElem? (i := 4) rfl), lw_t1 (List.mem_of_getElem? (i := 115) rfl), lw_t1 (List.mem_of_getElem? (i := 116) rfl)⟩
theorem lw_p12 : lw_okq (⟨"SeatShares", "shareByRests", "(III)V"⟩, 7) := ⟨⟨by decide +kernel, by decide +kernel⟩, lw_t1 (List.mem_of_getElem? (i := 4) rfl), lw_t1 (List.mem_of_getElem? (i := 119) rfl), lw_t1 (List.mem_of_getElem? (i := 120) rfl)⟩
theorem lw_p13 : lw_okq (⟨"SeatShares", "putInOrder", "(II)I"⟩, 7) := ⟨⟨by decide +kernel, by decide +kernel⟩, lw_t1 (List.mem_of_getElem? (i := 4) rfl), lw_t1 (List.mem_of_getElem? (i := 123) rfl), lw_t1 (List.mem_of_getElem? (i := 124) rfl)⟩
theorem lw_p14 : lw_okq (⟨"SeatShares", "shareWith", "(III)I"⟩, 7) := ⟨⟨by decide +kernel, by decide +kernel⟩, lw_t1 (List.mem_of_getElem? (i := 4) rfl), lw_t1 (List.mem_of_getElem? (i := 135) rfl), lw_t1 (List.mem_of_getElem? (i := 136) rfl)⟩
theorem lw_p15 : lw_okq (⟨"SeatShares", "keepShares", "()V"⟩, 7) := ⟨⟨by decide +kernel, by decide +kernel⟩, lw_t1 (List.mem_of_getElem? (i := 4) rfl), lw_t1 (List.mem_of_getElem? (i := 147) rfl), lw_t1 (List.mem_of_getElem? (i := 148) rfl)⟩
def lw_privs_1 : List (MethodName × Nat) := [(⟨"SeatShares", "badVotes", "(I)Z"⟩, 7), (⟨"SeatShares", "missingList", "(I)Z"⟩, 7), (⟨"SeatShares", "allVotes", "()I"⟩, 7), (⟨"SeatShares", "badRule", "(I)Z"⟩, 7), (⟨"SeatShares", "shareOut", "(II)V"⟩, 7), (⟨"SeatShares", "shareByQuotients", "(III)V"⟩, 7), (⟨"SeatShares", "startShare", "(IIII)I"⟩, 7), (⟨"SeatShares", "worth", "(II)J"⟩, 7), (⟨"SeatShares", "divisor", "(II)I"⟩, 7), (⟨"SeatShares", "lastTaken", "(I)I"⟩, 7), (⟨"SeatShares", "before", "(IIIII)Z"⟩, 7), (⟨"SeatShares", "firstNext", "(I)I"⟩, 7), (⟨"SeatShares", "shareByRests", "(III)V"⟩, 7), (⟨"SeatShares", "putInOrder", "(II)I"⟩, 7), (⟨"SeatShares", "shareWith", "(III)I"⟩, 7), (⟨"SeatShares", "keepShares", "()V"⟩, 7)]
theorem lw_r1 : ∀ q ∈ lw_privs_1, lw_okq q := List.forall_mem_cons.mpr ⟨lw_p0, List.forall_mem_cons.mpr ⟨lw_p1, List.forall_mem_cons.mpr ⟨lw_p2, List.forall_mem_cons.mpr ⟨lw_p3, List.forall_mem_cons.mpr ⟨lw_p4, List.forall_mem_cons.mpr ⟨lw_p5, List.forall_mem_cons.mpr ⟨lw_p6, List.forall_mem_cons.mpr ⟨lw_p7, List.forall_mem_cons.mpr ⟨lw_p8, List.forall_mem_cons.mpr ⟨lw_p9, List.forall_mem_cons.mpr ⟨lw_p10, List.forall_mem_cons.mpr ⟨lw_p11, List.forall_mem_cons.mpr ⟨lw_p12, List.forall_mem_cons.mpr ⟨lw_p13, List.forall_mem_cons.mpr ⟨lw_p14, List.forall_mem_cons.mpr ⟨lw_p15, fun _ h => absurd h List.not_mem_nil⟩⟩⟩⟩⟩⟩⟩⟩⟩⟩⟩⟩⟩⟩⟩⟩
theorem lw_p16 : lw_okq (⟨"SeatSharesModel", "noVotes", "(I)Z"⟩, 5) := ⟨⟨by decide +kernel, by decide +kernel⟩, lw_t1 (List.mem_of_getElem? (i := 163) rfl), lw_t1 (List.mem_of_getElem? (i := 189) rfl), lw_t1 (List.mem_of_getElem? (i := 190) rfl)⟩
theorem lw_p17 : lw_okq (⟨"SeatSharesModel", "noList", "(I)Z"⟩, 5) := ⟨⟨by decide +kernel, by decide +kernel⟩, lw_t1 (List.mem_of_getElem? (i := 163) rfl), lw_t1 (List.mem_of_getElem? (i := 197) rfl), lw_t1 (List.mem_of_getElem? (i := 198) rfl)⟩
theorem lw_p18 : lw_okq (⟨"SeatSharesModel", "noRule", "(I)Z"⟩, 5) := ⟨⟨by decide +kernel, by decide +kernel⟩, lw_t1 (List.mem_of_getElem? (i := 163) rfl), lw_t1 (List.mem_of_getElem? (i := 226) rfl), lw_t1 (List.mem_of_getElem? (i := 227) rfl)⟩
theorem lw_p19 : lw_okq (⟨"SeatSharesModel", "give", "(II)V"⟩, 5) := ⟨⟨by decide +kernel, by decide +kernel⟩, lw_t1 (List.mem_of_getElem? (i := 163) rfl), lw_t1 (List.mem_of_getElem? (i := 230) rfl), lw_t1 (List.mem_of_getElem? (i := 231) rfl)⟩
theorem lw_p20 : lw_okq (⟨"SeatSharesModel", "giveByQuotients", "(II)V"⟩, 5) := ⟨⟨by decide +kernel, by decide +kernel⟩, lw_t1 (List.mem_of_getElem? (i := 163) rfl), lw_t1 (List.mem_of_getElem? (i := 234) rfl), lw_t1 (List.mem_of_getElem? (i := 235) rfl)⟩
theorem lw_p21 : lw_okq (⟨"SeatSharesModel", "isGreater", "(III)Z"⟩, 5) := ⟨⟨by decide +kernel, by decide +kernel⟩, lw_t1 (List.mem_of_getElem? (i := 163) rfl), lw_t1 (List.mem_of_getElem? (i := 238) rfl), lw_t1 (List.mem_of_getElem? (i := 239) rfl)⟩
theorem lw_p22 : lw_okq (⟨"SeatSharesModel", "divisor", "(II)J"⟩, 5) := ⟨⟨by decide +kernel, by decide +kernel⟩, lw_t1 (List.mem_of_getElem? (i := 163) rfl), lw_t2 (List.mem_of_getElem? (i := 2) rfl), lw_t2 (List.mem_of_getElem? (i := 3) rfl)⟩
theorem lw_p23 : lw_okq (⟨"SeatSharesModel", "worth", "(II)J"⟩, 5) := ⟨⟨by decide +kernel, by decide +kernel⟩, lw_t1 (List.mem_of_getElem? (i := 163) rfl), lw_t2 (List.mem_of_getElem? (i := 7) rfl), lw_t2 (List.mem_of_getElem? (i := 8) rfl)⟩
theorem lw_p24 : lw_okq (⟨"SeatSharesModel", "giveByRests", "(II)V"⟩, 5) := ⟨⟨by decide +kernel, by decide +kernel⟩, lw_t1 (List.mem_of_getElem? (i := 163) rfl), lw_t2 (List.mem_of_getElem? (i := 11) rfl), lw_t2 (List.mem_of_getElem? (i := 12) rfl)⟩
theorem lw_p25 : lw_okq (⟨"SeatSharesModel", "keep", "()V"⟩, 5) := ⟨⟨by decide +kernel, by decide +kernel⟩, lw_t1 (List.mem_of_getElem? (i := 163) rfl), lw_t2 (List.mem_of_getElem? (i := 19) rfl), lw_t2 (List.mem_of_getElem? (i := 20) rfl)⟩
theorem lw_p26 : lw_okq (⟨"SeatSharesModel", "shareWith", "(III)I"⟩, 5) := ⟨⟨by decide +kernel, by decide +kernel⟩, lw_t1 (List.mem_of_getElem? (i := 163) rfl), lw_t2 (List.mem_of_getElem? (i := 27) rfl), lw_t2 (List.mem_of_getElem? (i := 28) rfl)⟩
def lw_privs_2 : List (MethodName × Nat) := [(⟨"SeatSharesModel", "noVotes", "(I)Z"⟩, 5), (⟨"SeatSharesModel", "noList", "(I)Z"⟩, 5), (⟨"SeatSharesModel", "noRule", "(I)Z"⟩, 5), (⟨"SeatSharesModel", "give", "(II)V"⟩, 5), (⟨"SeatSharesModel", "giveByQuotients", "(II)V"⟩, 5), (⟨"SeatSharesModel", "isGreater", "(III)Z"⟩, 5), (⟨"SeatSharesModel", "divisor", "(II)J"⟩, 5), (⟨"SeatSharesModel", "worth", "(II)J"⟩, 5), (⟨"SeatSharesModel", "giveByRests", "(II)V"⟩, 5), (⟨"SeatSharesModel", "keep", "()V"⟩, 5), (⟨"SeatSharesModel", "shareWith", "(III)I"⟩, 5)]
theorem lw_r2 : ∀ q ∈ lw_privs_2, lw_okq q := List.forall_mem_cons.mpr ⟨lw_p16, List.forall_mem_cons.mpr ⟨lw_p17, List.forall_mem_cons.mpr ⟨lw_p18, List.forall_mem_cons.mpr ⟨lw_p19, List.forall_mem_cons.mpr ⟨lw_p20, List.forall_mem_cons.mpr ⟨lw_p21, List.forall_mem_cons.mpr ⟨lw_p22, List.forall_mem_cons.mpr ⟨lw_p23, List.forall_mem_cons.mpr ⟨lw_p24, List.forall_mem_cons.mpr ⟨lw_p25, List.forall_mem_cons.mpr ⟨lw_p26, fun _ h => absurd h List.not_mem_nil⟩⟩⟩⟩⟩⟩⟩⟩⟩⟩⟩
def lw_privs : List (MethodName × Nat) := lw_privs_1 ++ (lw_privs_2)
def lw_tbl : List Cond := k2_sels lw_privs ++ tables_1
theorem lw_privs_ok : ∀ q ∈ lw_privs, lw_okq q := by
  show ∀ q ∈ lw_privs_1 ++ (lw_privs_2), lw_okq q
  exact List.forall_mem_append.mpr ⟨lw_r1, lw_r2⟩
-- ===== ONE list of words for every method: the tables' words that hold all through a run =====
def lw_all : List Cond := lw_tbl.filter goodWord
/-- a word of the tables by its place: claim/WORDS.tsv -/
theorem lw_w {w : Cond} (i : Nat) (h : lw_tbl[i]? = some w) (g : goodWord w = true) : w ∈ lw_all := List.mem_filter.mpr ⟨List.mem_of_getElem? h, g⟩
theorem lw_all_tbl {w : Cond} (h : w ∈ lw_all) : w ∈ lw_tbl := (List.mem_filter.mp h).1
theorem lw_self : GoodIn lw_all lw_all := fun w h => ⟨h, good_of_word (List.mem_filter.mp h).2⟩
/-- a kind's field words, by their places -/
theorem lw_in (ws : List Cond) (ps : List Nat) (hp : ws = ps.filterMap (fun i => lw_tbl[i]?)) (hg : ws.all goodWord = true) : ∀ w ∈ ws, w ∈ lw_all := by
  intro w h
  have h1 := List.all_eq_true.mp hg w h
  rw [hp] at h
  obtain ⟨i, -, hi⟩ := List.mem_filterMap.mp h
  exact lw_w i hi h1
/-- the words of a contract for the method y with code b, L locals, answer r -/
abbrev ws_ (y : MethodName) (b : ByteArray) (L : Nat) (r : Option FieldType) : List Cond := Cond.code y b L r :: lw_all
theorem lw_meth {y : MethodName} {b : ByteArray} {L : Nat} {r : Option FieldType} (h : Cond.code y b L r ∈ lw_all) : GoodIn lw_all (ws_ y b L r) := by
  intro w hw
  rcases List.mem_cons.mp hw with e | e
  · rw [e]
    exact lw_self _ h
  · exact lw_self _ e
theorem lw_app {a c : List Cond} (ha : ∀ w ∈ a, w ∈ lw_all) (hc : GoodIn lw_all c) : GoodIn lw_all (a ++ c) := by
  intro w hw
  rcases List.mem_append.mp hw with e | e
  · exact lw_self w (ha w e)
  · exact hc w e
/-- what a call through an object asks: cwV n hts (lw_V ..) -/
theorem lw_V {own : String} {idx : Nat} {C : String} {y : MethodName} {b : ByteArray} {L : Nat} {r : Option FieldType} (h1 : Cond.methodLink own idx y ∈ lw_all) (h2 : Cond.instanceMethod y ∈ lw_all) (h3 : Cond.selects C y y ∈ lw_all) (h4 : Cond.initialized C ∈ lw_all) (h5 : Cond.code y b L r ∈ lw_all) : GoodIn lw_all (wsV own idx C y (ws_ y b L r)) := by
  refine lw_app ?_ (lw_meth h5)
  intro w hw
  simp only [List.mem_cons, List.not_mem_nil, or_false] at hw
  rcases hw with e | e | e | e
  · rw [e]; exact h1
  · rw [e]; exact h2
  · rw [e]; exact h3
  · rw [e]; exact h4
/-- what a static call asks: va_cwS n hts (lw_S ..) -/
theorem lw_S {own : String} {idx : Nat} {y : MethodName} {b : ByteArray} {L : Nat} {r : Option FieldType} (h1 : Cond.methodLink own idx y ∈ lw_all) (h2 : Cond.static y ∈ lw_all) (h3 : Cond.initialized y.cls ∈ lw_all) (h4 : Cond.code y b L r ∈ lw_all) : GoodIn lw_all (va_wsS own idx y (ws_ y b L r)) := by
  refine lw_app ?_ (lw_meth h4)
  intro w hw
  simp only [List.mem_cons, List.not_mem_nil, or_false] at hw
  rcases hw with e | e | e
  · rw [e]; exact h1
  · rw [e]; exact h2
  · rw [e]; exact h3
/-- the words of a contract for a method WITH HANDLERS (hh: its table) -/
abbrev wsW_ (y : MethodName) (b : ByteArray) (L : Nat) (r : Option FieldType) (hh : List (Nat × Nat × Nat × Nat)) : List Cond := Cond.codeWith y b L r hh :: lw_all
theorem lw_methW {y : MethodName} {b : ByteArray} {L : Nat} {r : Option FieldType} {hh : List (Nat × Nat × Nat × Nat)} (h : Cond.codeWith y b L r hh ∈ lw_all) : GoodIn lw_all (wsW_ y b L r hh) := by
  intro w hw
  rcases List.mem_cons.mp hw with e | e
  · rw [e]
    exact lw_self _ h
  · exact lw_self _ e
/-- any list of words by their places (lw_in), good -/
theorem lw_good {ws : List Cond} (h : ∀ w ∈ ws, w ∈ lw_all) : GoodIn lw_all ws := fun w hw => lw_self w (h w hw)
/-- what a call of a method with handlers asks: vx_cwVW n hts (lw_VW ..), vx_cwSW n hts (lw_SW ..) -/
theorem lw_VW {own : String} {idx : Nat} {C : String} {y : MethodName} {b : ByteArray} {L : Nat} {r : Option FieldType} {hh : List (Nat × Nat × Nat × Nat)} (h1 : Cond.methodLink own idx y ∈ lw_all) (h2 : Cond.instanceMethod y ∈ lw_all) (h3 : Cond.selects C y y ∈ lw_all) (h4 : Cond.initialized C ∈ lw_all) (h5 : Cond.codeWith y b L r hh ∈ lw_all) : GoodIn lw_all (wsV own idx C y (wsW_ y b L r hh)) := by
  refine lw_app ?_ (lw_methW h5)
  intro w hw
  simp only [List.mem_cons, List.not_mem_nil, or_false] at hw
  rcases hw with e | e | e | e
  · rw [e]; exact h1
  · rw [e]; exact h2
  · rw [e]; exact h3
  · rw [e]; exact h4
theorem lw_SW {own : String} {idx : Nat} {y : MethodName} {b : ByteArray} {L : Nat} {r : Option FieldType} {hh : List (Nat × Nat × Nat × Nat)} (h1 : Cond.methodLink own idx y ∈ lw_all) (h2 : Cond.static y ∈ lw_all) (h3 : Cond.initialized y.cls ∈ lw_all) (h4 : Cond.codeWith y b L r hh ∈ lw_all) : GoodIn lw_all (va_wsS own idx y (wsW_ y b L r hh)) := by
  refine lw_app ?_ (lw_methW h4)
  intro w hw
  simp only [List.mem_cons, List.not_mem_nil, or_false] at hw
  rcases hw with e | e | e
  · rw [e]; exact h1
  · rw [e]; exact h2
  · rw [e]; exact h3
/-- a word by its place in its run of the tables -/
theorem lw_at {r : List Cond} (hr : ∀ w ∈ r, w ∈ lw_tbl) {w : Cond} (i : Nat) (h : r[i]? = some w) : w ∈ lw_tbl := hr w (List.mem_of_getElem? h)
theorem lw_g {w : Cond} (h : w ∈ lw_tbl) (g : goodWord w = true) : w ∈ lw_all := List.mem_filter.mpr ⟨h, g⟩
theorem lw_ms : ∀ w ∈ k2_sels lw_privs, w ∈ lw_tbl := fun w h => show w ∈ k2_sels lw_privs ++ tables_1 from List.mem_append_left _ h
theorem lw_m1 : ∀ w ∈ tables_1_1, w ∈ lw_tbl := fun w h => show w ∈ k2_sels lw_privs ++ tables_1 from List.mem_append_right (k2_sels lw_privs) (show w ∈ tables_1 from List.mem_append_left _ h)
theorem lw_m2 : ∀ w ∈ tables_1_2, w ∈ lw_tbl := fun w h => show w ∈ k2_sels lw_privs ++ tables_1 from List.mem_append_right (k2_sels lw_privs) (show w ∈ tables_1 from List.mem_append_right _ h)
theorem qs0 : (Cond.selects "SeatShares" ⟨"SeatShares", "badVotes", "(I)Z"⟩ ⟨"SeatShares", "badVotes", "(I)Z"⟩) ∈ lw_all := lw_g (lw_at lw_ms 0 rfl) rfl
theorem qs1 : (Cond.selects "SeatShares" ⟨"SeatShares", "missingList", "(I)Z"⟩ ⟨"SeatShares", "missingList", "(I)Z"⟩) ∈ lw_all := lw_g (lw_at lw_ms 1 rfl) rfl
theorem qs2 : (Cond.selects "SeatShares" ⟨"SeatShares", "allVotes", "()I"⟩ ⟨"SeatShares", "allVotes", "()I"⟩) ∈ lw_all := lw_g (lw_at lw_ms 2 rfl) rfl
theorem qs3 : (Cond.selects "SeatShares" ⟨"SeatShares", "badRule", "(I)Z"⟩ ⟨"SeatShares", "badRule", "(I)Z"⟩) ∈ lw_all := lw_g (lw_at lw_ms 3 rfl) rfl
theorem qs4 : (Cond.selects "SeatShares" ⟨"SeatShares", "shareOut", "(II)V"⟩ ⟨"SeatShares", "shareOut", "(II)V"⟩) ∈ lw_all := lw_g (lw_at lw_ms 4 rfl) rfl
theorem qs5 : (Cond.selects "SeatShares" ⟨"SeatShares", "shareByQuotients", "(III)V"⟩ ⟨"SeatShares", "shareByQuotients", "(III)V"⟩) ∈ lw_all := lw_g (lw_at lw_ms 5 rfl) rfl
theorem qs6 : (Cond.selects "SeatShares" ⟨"SeatShares", "startShare", "(IIII)I"⟩ ⟨"SeatShares", "startShare", "(IIII)I"⟩) ∈ lw_all := lw_g (lw_at lw_ms 6 rfl) rfl
theorem qs7 : (Cond.selects "SeatShares" ⟨"SeatShares", "worth", "(II)J"⟩ ⟨"SeatShares", "worth", "(II)J"⟩) ∈ lw_all := lw_g (lw_at lw_ms 7 rfl) rfl
theorem qs8 : (Cond.selects "SeatShares" ⟨"SeatShares", "divisor", "(II)I"⟩ ⟨"SeatShares", "divisor", "(II)I"⟩) ∈ lw_all := lw_g (lw_at lw_ms 8 rfl) rfl
theorem qs9 : (Cond.selects "SeatShares" ⟨"SeatShares", "lastTaken", "(I)I"⟩ ⟨"SeatShares", "lastTaken", "(I)I"⟩) ∈ lw_all := lw_g (lw_at lw_ms 9 rfl) rfl
theorem qs10 : (Cond.selects "SeatShares" ⟨"SeatShares", "before", "(IIIII)Z"⟩ ⟨"SeatShares", "before", "(IIIII)Z"⟩) ∈ lw_all := lw_g (lw_at lw_ms 10 rfl) rfl
theorem qs11 : (Cond.selects "SeatShares" ⟨"SeatShares", "firstNext", "(I)I"⟩ ⟨"SeatShares", "firstNext", "(I)I"⟩) ∈ lw_all := lw_g (lw_at lw_ms 11 rfl) rfl
theorem qs12 : (Cond.selects "SeatShares" ⟨"SeatShares", "shareByRests", "(III)V"⟩ ⟨"SeatShares", "shareByRests", "(III)V"⟩) ∈ lw_all := lw_g (lw_at lw_ms 12 rfl) rfl
theorem qs13 : (Cond.selects "SeatShares" ⟨"SeatShares", "putInOrder", "(II)I"⟩ ⟨"SeatShares", "putInOrder", "(II)I"⟩) ∈ lw_all := lw_g (lw_at lw_ms 13 rfl) rfl
theorem qs14 : (Cond.selects "SeatShares" ⟨"SeatShares", "shareWith", "(III)I"⟩ ⟨"SeatShares", "shareWith", "(III)I"⟩) ∈ lw_all := lw_g (lw_at lw_ms 14 rfl) rfl
theorem qs15 : (Cond.selects "SeatShares" ⟨"SeatShares", "keepShares", "()V"⟩ ⟨"SeatShares", "keepShares", "()V"⟩) ∈ lw_all := lw_g (lw_at lw_ms 15 rfl) rfl
theorem qs16 : (Cond.selects "SeatSharesModel" ⟨"SeatSharesModel", "noVotes", "(I)Z"⟩ ⟨"SeatSharesModel", "noVotes", "(I)Z"⟩) ∈ lw_all := lw_g (lw_at lw_ms 16 rfl) rfl
theorem qs17 : (Cond.selects "SeatSharesModel" ⟨"SeatSharesModel", "noList", "(I)Z"⟩ ⟨"SeatSharesModel", "noList", "(I)Z"⟩) ∈ lw_all := lw_g (lw_at lw_ms 17 rfl) rfl
theorem qs18 : (Cond.selects "SeatSharesModel" ⟨"SeatSharesModel", "noRule", "(I)Z"⟩ ⟨"SeatSharesModel", "noRule", "(I)Z"⟩) ∈ lw_all := lw_g (lw_at lw_ms 18 rfl) rfl
theorem qs19 : (Cond.selects "SeatSharesModel" ⟨"SeatSharesModel", "give", "(II)V"⟩ ⟨"SeatSharesModel", "give", "(II)V"⟩) ∈ lw_all := lw_g (lw_at lw_ms 19 rfl) rfl
theorem qs20 : (Cond.selects "SeatSharesModel" ⟨"SeatSharesModel", "giveByQuotients", "(II)V"⟩ ⟨"SeatSharesModel", "giveByQuotients", "(II)V"⟩) ∈ lw_all := lw_g (lw_at lw_ms 20 rfl) rfl
theorem qs21 : (Cond.selects "SeatSharesModel" ⟨"SeatSharesModel", "isGreater", "(III)Z"⟩ ⟨"SeatSharesModel", "isGreater", "(III)Z"⟩) ∈ lw_all := lw_g (lw_at lw_ms 21 rfl) rfl
theorem qs22 : (Cond.selects "SeatSharesModel" ⟨"SeatSharesModel", "divisor", "(II)J"⟩ ⟨"SeatSharesModel", "divisor", "(II)J"⟩) ∈ lw_all := lw_g (lw_at lw_ms 22 rfl) rfl
theorem qs23 : (Cond.selects "SeatSharesModel" ⟨"SeatSharesModel", "worth", "(II)J"⟩ ⟨"SeatSharesModel", "worth", "(II)J"⟩) ∈ lw_all := lw_g (lw_at lw_ms 23 rfl) rfl
theorem qs24 : (Cond.selects "SeatSharesModel" ⟨"SeatSharesModel", "giveByRests", "(II)V"⟩ ⟨"SeatSharesModel", "giveByRests", "(II)V"⟩) ∈ lw_all := lw_g (lw_at lw_ms 24 rfl) rfl
theorem qs25 : (Cond.selects "SeatSharesModel" ⟨"SeatSharesModel", "keep", "()V"⟩ ⟨"SeatSharesModel", "keep", "()V"⟩) ∈ lw_all := lw_g (lw_at lw_ms 25 rfl) rfl
theorem qs26 : (Cond.selects "SeatSharesModel" ⟨"SeatSharesModel", "shareWith", "(III)I"⟩ ⟨"SeatSharesModel", "shareWith", "(III)I"⟩) ∈ lw_all := lw_g (lw_at lw_ms 26 rfl) rfl
end
section
set_option maxRecDepth 100000
/-! SeatShares -/
def RX0 : String := "SeatShares"
def TX0 : u_T := fun k => match k with
  | 0 => ("SeatShares", "count", "I", false)
  | 1 => ("SeatShares", "total", "I", false)
  | 2 => ("SeatShares", "voteOf", "[I", true)
  | 3 => ("SeatShares", "shareOf", "[I", true)
  | 4 => ("SeatShares", "kept", "[I", true)
  | 5 => ("SeatShares", "rest", "[I", true)
  | _ => ("SeatShares", "order", "[B", true)
def tyX0 : Nat → FieldType := fun k => match k with
  | 0 => .int
  | 1 => .int
  | 2 => .array .int
  | 3 => .array .int
  | 4 => .array .int
  | 5 => .array .int
  | _ => .array .byte
abbrev wsX00 : List Cond := u_ws RX0 TX0 7
theorem nmX0 : ∀ a, a < 7 → ∀ b, b < 7 → a ≠ b → (TX0 a).2.1 ≠ (TX0 b).2.1 := by decide +kernel
theorem tyX0_ok : ∀ k, k < 7 → parseFieldDescriptor (TX0 k).2.2.1 = some (tyX0 k) := by decide +kernel
abbrev cX0_init : ByteArray := prog_1_method_1_code
def yX0_init : MethodName := ⟨RX0, "<init>", "()V"⟩
theorem dX0_init_0 : decode cX0_init 0 = .ok (.aload_n 0, 1) := by decide +kernel
theorem dX0_init_1 : decode cX0_init 1 = .ok (.invokespecial 1, 3) := by decide +kernel
theorem dX0_init_4 : decode cX0_init 4 = .ok (.aload_n 0, 1) := by decide +kernel
theorem dX0_init_5 : decode cX0_init 5 = .ok (.bipush 6, 2) := by decide +kernel
theorem dX0_init_7 : decode cX0_init 7 = .ok (.newarray .int, 2) := by decide +kernel
theorem dX0_init_9 : decode cX0_init 9 = .ok (.putfield 7, 3) := by decide +kernel
theorem dX0_init_12 : decode cX0_init 12 = .ok (.aload_n 0, 1) := by decide +kernel
theorem dX0_init_13 : decode cX0_init 13 = .ok (.bipush 6, 2) := by decide +kernel
theorem dX0_init_15 : decode cX0_init 15 = .ok (.newarray .int, 2) := by decide +kernel
theorem dX0_init_17 : decode cX0_init 17 = .ok (.putfield 13, 3) := by decide +kernel
theorem dX0_init_20 : decode cX0_init 20 = .ok (.aload_n 0, 1) := by decide +kernel
theorem dX0_init_21 : decode cX0_init 21 = .ok (.bipush 6, 2) := by decide +kernel
theorem dX0_init_23 : decode cX0_init 23 = .ok (.newarray .int, 2) := by decide +kernel
theorem dX0_init_25 : decode cX0_init 25 = .ok (.putfield 16, 3) := by decide +kernel
theorem dX0_init_28 : decode cX0_init 28 = .ok (.aload_n 0, 1) := by decide +kernel
theorem dX0_init_29 : decode cX0_init 29 = .ok (.bipush 6, 2) := by decide +kernel
theorem dX0_init_31 : decode cX0_init 31 = .ok (.newarray .int, 2) := by decide +kernel
theorem dX0_init_33 : decode cX0_init 33 = .ok (.putfield 19, 3) := by decide +kernel
theorem dX0_init_36 : decode cX0_init 36 = .ok (.aload_n 0, 1) := by decide +kernel
theorem dX0_init_37 : decode cX0_init 37 = .ok (.bipush 6, 2) := by decide +kernel
theorem dX0_init_39 : decode cX0_init 39 = .ok (.newarray .byte, 2) := by decide +kernel
theorem dX0_init_41 : decode cX0_init 41 = .ok (.putfield 22, 3) := by decide +kernel
theorem dX0_init_44 : decode cX0_init 44 = .ok (.aload_n 0, 1) := by decide +kernel
theorem dX0_init_45 : decode cX0_init 45 = .ok (.iconst 0, 1) := by decide +kernel
theorem dX0_init_46 : decode cX0_init 46 = .ok (.putfield 26, 3) := by decide +kernel
theorem dX0_init_49 : decode cX0_init 49 = .ok (.return_, 1) := by decide +kernel
abbrev cX0_list : ByteArray := prog_1_method_5_code
def yX0_list : MethodName := ⟨RX0, "list", "(I)I"⟩
theorem dX0_list_0 : decode cX0_list 0 = .ok (.aload_n 0, 1) := by decide +kernel
theorem dX0_list_1 : decode cX0_list 1 = .ok (.iload_n 1, 1) := by decide +kernel
theorem dX0_list_2 : decode cX0_list 2 = .ok (.invokevirtual 30, 3) := by decide +kernel
theorem dX0_list_5 : decode cX0_list 5 = .ok (.ifCond .eq 5, 3) := by decide +kernel
theorem dX0_list_8 : decode cX0_list 8 = .ok (.iconst (-1), 1) := by decide +kernel
theorem dX0_list_9 : decode cX0_list 9 = .ok (.ireturn, 1) := by decide +kernel
theorem dX0_list_10 : decode cX0_list 10 = .ok (.aload_n 0, 1) := by decide +kernel
theorem dX0_list_11 : decode cX0_list 11 = .ok (.getfield 26, 3) := by decide +kernel
theorem dX0_list_14 : decode cX0_list 14 = .ok (.bipush 6, 2) := by decide +kernel
theorem dX0_list_16 : decode cX0_list 16 = .ok (.if_icmp .ne 6, 3) := by decide +kernel
theorem dX0_list_19 : decode cX0_list 19 = .ok (.bipush (-2), 2) := by decide +kernel
theorem dX0_list_21 : decode cX0_list 21 = .ok (.ireturn, 1) := by decide +kernel
theorem dX0_list_22 : decode cX0_list 22 = .ok (.aload_n 0, 1) := by decide +kernel
theorem dX0_list_23 : decode cX0_list 23 = .ok (.getfield 7, 3) := by decide +kernel
theorem dX0_list_26 : decode cX0_list 26 = .ok (.aload_n 0, 1) := by decide +kernel
theorem dX0_list_27 : decode cX0_list 27 = .ok (.getfield 26, 3) := by decide +kernel
theorem dX0_list_30 : decode cX0_list 30 = .ok (.iload_n 1, 1) := by decide +kernel
theorem dX0_list_31 : decode cX0_list 31 = .ok (.iastore, 1) := by decide +kernel
theorem dX0_list_32 : decode cX0_list 32 = .ok (.aload_n 0, 1) := by decide +kernel
theorem dX0_list_33 : decode cX0_list 33 = .ok (.dup, 1) := by decide +kernel
theorem dX0_list_34 : decode cX0_list 34 = .ok (.getfield 26, 3) := by decide +kernel
theorem dX0_list_37 : decode cX0_list 37 = .ok (.iconst 1, 1) := by decide +kernel
theorem dX0_list_38 : decode cX0_list 38 = .ok (.iadd, 1) := by decide +kernel
theorem dX0_list_39 : decode cX0_list 39 = .ok (.putfield 26, 3) := by decide +kernel
theorem dX0_list_42 : decode cX0_list 42 = .ok (.aload_n 0, 1) := by decide +kernel
theorem dX0_list_43 : decode cX0_list 43 = .ok (.getfield 26, 3) := by decide +kernel
theorem dX0_list_46 : decode cX0_list 46 = .ok (.iconst 1, 1) := by decide +kernel
theorem dX0_list_47 : decode cX0_list 47 = .ok (.isub, 1) := by decide +kernel
theorem dX0_list_48 : decode cX0_list 48 = .ok (.ireturn, 1) := by decide +kernel
abbrev cX0_badVotes : ByteArray := prog_1_method_3_code
def yX0_badVotes : MethodName := ⟨RX0, "badVotes", "(I)Z"⟩
theorem dX0_badVotes_0 : decode cX0_badVotes 0 = .ok (.iload_n 1, 1) := by decide +kernel
theorem dX0_badVotes_1 : decode cX0_badVotes 1 = .ok (.ifCond .lt 10, 3) := by decide +kernel
theorem dX0_badVotes_4 : decode cX0_badVotes 4 = .ok (.iload_n 1, 1) := by decide +kernel
theorem dX0_badVotes_5 : decode cX0_badVotes 5 = .ok (.sipush 999, 3) := by decide +kernel
theorem dX0_badVotes_8 : decode cX0_badVotes 8 = .ok (.if_icmp .le 7, 3) := by decide +kernel
theorem dX0_badVotes_11 : decode cX0_badVotes 11 = .ok (.iconst 1, 1) := by decide +kernel
theorem dX0_badVotes_12 : decode cX0_badVotes 12 = .ok (.goto 4, 3) := by decide +kernel
theorem dX0_badVotes_15 : decode cX0_badVotes 15 = .ok (.iconst 0, 1) := by decide +kernel
theorem dX0_badVotes_16 : decode cX0_badVotes 16 = .ok (.ireturn, 1) := by decide +kernel
abbrev cX0_vote : ByteArray := prog_1_method_6_code
def yX0_vote : MethodName := ⟨RX0, "vote", "(II)I"⟩
theorem dX0_vote_0 : decode cX0_vote 0 = .ok (.aload_n 0, 1) := by decide +kernel
theorem dX0_vote_1 : decode cX0_vote 1 = .ok (.iload_n 1, 1) := by decide +kernel
theorem dX0_vote_2 : decode cX0_vote 2 = .ok (.invokevirtual 34, 3) := by decide +kernel
theorem dX0_vote_5 : decode cX0_vote 5 = .ok (.ifCond .ne 11, 3) := by decide +kernel
theorem dX0_vote_8 : decode cX0_vote 8 = .ok (.aload_n 0, 1) := by decide +kernel
theorem dX0_vote_9 : decode cX0_vote 9 = .ok (.iload_n 2, 1) := by decide +kernel
theorem dX0_vote_10 : decode cX0_vote 10 = .ok (.invokevirtual 30, 3) := by decide +kernel
theorem dX0_vote_13 : decode cX0_vote 13 = .ok (.ifCond .eq 5, 3) := by decide +kernel
theorem dX0_vote_16 : decode cX0_vote 16 = .ok (.iconst (-1), 1) := by decide +kernel
theorem dX0_vote_17 : decode cX0_vote 17 = .ok (.ireturn, 1) := by decide +kernel
theorem dX0_vote_18 : decode cX0_vote 18 = .ok (.aload_n 0, 1) := by decide +kernel
theorem dX0_vote_19 : decode cX0_vote 19 = .ok (.getfield 7, 3) := by decide +kernel
theorem dX0_vote_22 : decode cX0_vote 22 = .ok (.iload_n 1, 1) := by decide +kernel
theorem dX0_vote_23 : decode cX0_vote 23 = .ok (.iaload, 1) := by decide +kernel
theorem dX0_vote_24 : decode cX0_vote 24 = .ok (.istore_n 3, 1) := by decide +kernel
theorem dX0_vote_25 : decode cX0_vote 25 = .ok (.aload_n 0, 1) := by decide +kernel
theorem dX0_vote_26 : decode cX0_vote 26 = .ok (.getfield 7, 3) := by decide +kernel
theorem dX0_vote_29 : decode cX0_vote 29 = .ok (.iload_n 1, 1) := by decide +kernel
theorem dX0_vote_30 : decode cX0_vote 30 = .ok (.iload_n 2, 1) := by decide +kernel
theorem dX0_vote_31 : decode cX0_vote 31 = .ok (.iastore, 1) := by decide +kernel
theorem dX0_vote_32 : decode cX0_vote 32 = .ok (.iload_n 3, 1) := by decide +kernel
theorem dX0_vote_33 : decode cX0_vote 33 = .ok (.ireturn, 1) := by decide +kernel
abbrev cX0_missingList : ByteArray := prog_1_method_2_code
def yX0_missingList : MethodName := ⟨RX0, "missingList", "(I)Z"⟩
theorem dX0_missingList_0 : decode cX0_missingList 0 = .ok (.iload_n 1, 1) := by decide +kernel
theorem dX0_missingList_1 : decode cX0_missingList 1 = .ok (.ifCond .lt 11, 3) := by decide +kernel
theorem dX0_missingList_4 : decode cX0_missingList 4 = .ok (.iload_n 1, 1) := by decide +kernel
theorem dX0_missingList_5 : decode cX0_missingList 5 = .ok (.aload_n 0, 1) := by decide +kernel
theorem dX0_missingList_6 : decode cX0_missingList 6 = .ok (.getfield 26, 3) := by decide +kernel
theorem dX0_missingList_9 : decode cX0_missingList 9 = .ok (.if_icmp .lt 7, 3) := by decide +kernel
theorem dX0_missingList_12 : decode cX0_missingList 12 = .ok (.iconst 1, 1) := by decide +kernel
theorem dX0_missingList_13 : decode cX0_missingList 13 = .ok (.goto 4, 3) := by decide +kernel
theorem dX0_missingList_16 : decode cX0_missingList 16 = .ok (.iconst 0, 1) := by decide +kernel
theorem dX0_missingList_17 : decode cX0_missingList 17 = .ok (.ireturn, 1) := by decide +kernel
abbrev cX0_join : ByteArray := prog_1_method_7_code
def yX0_join : MethodName := ⟨RX0, "join", "(II)I"⟩
theorem dX0_join_0 : decode cX0_join 0 = .ok (.aload_n 0, 1) := by decide +kernel
theorem dX0_join_1 : decode cX0_join 1 = .ok (.iload_n 1, 1) := by decide +kernel
theorem dX0_join_2 : decode cX0_join 2 = .ok (.invokevirtual 34, 3) := by decide +kernel
theorem dX0_join_5 : decode cX0_join 5 = .ok (.ifCond .ne 16, 3) := by decide +kernel
theorem dX0_join_8 : decode cX0_join 8 = .ok (.aload_n 0, 1) := by decide +kernel
theorem dX0_join_9 : decode cX0_join 9 = .ok (.iload_n 2, 1) := by decide +kernel
theorem dX0_join_10 : decode cX0_join 10 = .ok (.invokevirtual 34, 3) := by decide +kernel
theorem dX0_join_13 : decode cX0_join 13 = .ok (.ifCond .ne 8, 3) := by decide +kernel
theorem dX0_join_16 : decode cX0_join 16 = .ok (.iload_n 1, 1) := by decide +kernel
theorem dX0_join_17 : decode cX0_join 17 = .ok (.iload_n 2, 1) := by decide +kernel
theorem dX0_join_18 : decode cX0_join 18 = .ok (.if_icmp .ne 5, 3) := by decide +kernel
theorem dX0_join_21 : decode cX0_join 21 = .ok (.iconst (-1), 1) := by decide +kernel
theorem dX0_join_22 : decode cX0_join 22 = .ok (.ireturn, 1) := by decide +kernel
theorem dX0_join_23 : decode cX0_join 23 = .ok (.aload_n 0, 1) := by decide +kernel
theorem dX0_join_24 : decode cX0_join 24 = .ok (.getfield 7, 3) := by decide +kernel
theorem dX0_join_27 : decode cX0_join 27 = .ok (.iload_n 1, 1) := by decide +kernel
theorem dX0_join_28 : decode cX0_join 28 = .ok (.iaload, 1) := by decide +kernel
theorem dX0_join_29 : decode cX0_join 29 = .ok (.aload_n 0, 1) := by decide +kernel
theorem dX0_join_30 : decode cX0_join 30 = .ok (.getfield 7, 3) := by decide +kernel
theorem dX0_join_33 : decode cX0_join 33 = .ok (.iload_n 2, 1) := by decide +kernel
theorem dX0_join_34 : decode cX0_join 34 = .ok (.iaload, 1) := by decide +kernel
theorem dX0_join_35 : decode cX0_join 35 = .ok (.iadd, 1) := by decide +kernel
theorem dX0_join_36 : decode cX0_join 36 = .ok (.istore_n 3, 1) := by decide +kernel
theorem dX0_join_37 : decode cX0_join 37 = .ok (.aload_n 0, 1) := by decide +kernel
theorem dX0_join_38 : decode cX0_join 38 = .ok (.getfield 7, 3) := by decide +kernel
theorem dX0_join_41 : decode cX0_join 41 = .ok (.iload_n 1, 1) := by decide +kernel
theorem dX0_join_42 : decode cX0_join 42 = .ok (.iload_n 3, 1) := by decide +kernel
theorem dX0_join_43 : decode cX0_join 43 = .ok (.sipush 999, 3) := by decide +kernel
theorem dX0_join_46 : decode cX0_join 46 = .ok (.if_icmp .le 9, 3) := by decide +kernel
theorem dX0_join_49 : decode cX0_join 49 = .ok (.sipush 999, 3) := by decide +kernel
theorem dX0_join_52 : decode cX0_join 52 = .ok (.goto 4, 3) := by decide +kernel
theorem dX0_join_55 : decode cX0_join 55 = .ok (.iload_n 3, 1) := by decide +kernel
theorem dX0_join_56 : decode cX0_join 56 = .ok (.iastore, 1) := by decide +kernel
theorem dX0_join_57 : decode cX0_join 57 = .ok (.aload_n 0, 1) := by decide +kernel
theorem dX0_join_58 : decode cX0_join 58 = .ok (.getfield 7, 3) := by decide +kernel
theorem dX0_join_61 : decode cX0_join 61 = .ok (.iload_n 2, 1) := by decide +kernel
theorem dX0_join_62 : decode cX0_join 62 = .ok (.iconst 0, 1) := by decide +kernel
theorem dX0_join_63 : decode cX0_join 63 = .ok (.iastore, 1) := by decide +kernel
theorem dX0_join_64 : decode cX0_join 64 = .ok (.aload_n 0, 1) := by decide +kernel
theorem dX0_join_65 : decode cX0_join 65 = .ok (.getfield 7, 3) := by decide +kernel
theorem dX0_join_68 : decode cX0_join 68 = .ok (.iload_n 1, 1) := by decide +kernel
theorem dX0_join_69 : decode cX0_join 69 = .ok (.iaload, 1) := by decide +kernel
theorem dX0_join_70 : decode cX0_join 70 = .ok (.ireturn, 1) := by decide +kernel
abbrev cX0_seats : ByteArray := prog_1_method_8_code
def yX0_seats : MethodName := ⟨RX0, "seats", "(I)I"⟩
theorem dX0_seats_0 : decode cX0_seats 0 = .ok (.iload_n 1, 1) := by decide +kernel
theorem dX0_seats_1 : decode cX0_seats 1 = .ok (.ifCond .lt 9, 3) := by decide +kernel
theorem dX0_seats_4 : decode cX0_seats 4 = .ok (.iload_n 1, 1) := by decide +kernel
theorem dX0_seats_5 : decode cX0_seats 5 = .ok (.bipush 30, 2) := by decide +kernel
theorem dX0_seats_7 : decode cX0_seats 7 = .ok (.if_icmp .le 5, 3) := by decide +kernel
theorem dX0_seats_10 : decode cX0_seats 10 = .ok (.iconst (-1), 1) := by decide +kernel
theorem dX0_seats_11 : decode cX0_seats 11 = .ok (.ireturn, 1) := by decide +kernel
theorem dX0_seats_12 : decode cX0_seats 12 = .ok (.aload_n 0, 1) := by decide +kernel
theorem dX0_seats_13 : decode cX0_seats 13 = .ok (.getfield 37, 3) := by decide +kernel
theorem dX0_seats_16 : decode cX0_seats 16 = .ok (.istore_n 2, 1) := by decide +kernel
theorem dX0_seats_17 : decode cX0_seats 17 = .ok (.aload_n 0, 1) := by decide +kernel
theorem dX0_seats_18 : decode cX0_seats 18 = .ok (.iload_n 1, 1) := by decide +kernel
theorem dX0_seats_19 : decode cX0_seats 19 = .ok (.putfield 37, 3) := by decide +kernel
theorem dX0_seats_22 : decode cX0_seats 22 = .ok (.iload_n 2, 1) := by decide +kernel
theorem dX0_seats_23 : decode cX0_seats 23 = .ok (.ireturn, 1) := by decide +kernel
abbrev cX0_bar : ByteArray := prog_1_method_10_code
def yX0_bar : MethodName := ⟨RX0, "bar", "(I)I"⟩
theorem dX0_bar_0 : decode cX0_bar 0 = .ok (.iload_n 1, 1) := by decide +kernel
theorem dX0_bar_1 : decode cX0_bar 1 = .ok (.ifCond .lt 9, 3) := by decide +kernel
theorem dX0_bar_4 : decode cX0_bar 4 = .ok (.iload_n 1, 1) := by decide +kernel
theorem dX0_bar_5 : decode cX0_bar 5 = .ok (.bipush 100, 2) := by decide +kernel
theorem dX0_bar_7 : decode cX0_bar 7 = .ok (.if_icmp .le 5, 3) := by decide +kernel
theorem dX0_bar_10 : decode cX0_bar 10 = .ok (.iconst (-1), 1) := by decide +kernel
theorem dX0_bar_11 : decode cX0_bar 11 = .ok (.ireturn, 1) := by decide +kernel
theorem dX0_bar_12 : decode cX0_bar 12 = .ok (.aload_n 0, 1) := by decide +kernel
theorem dX0_bar_13 : decode cX0_bar 13 = .ok (.invokevirtual 40, 3) := by decide +kernel
theorem dX0_bar_16 : decode cX0_bar 16 = .ok (.istore_n 2, 1) := by decide +kernel
theorem dX0_bar_17 : decode cX0_bar 17 = .ok (.iconst 0, 1) := by decide +kernel
theorem dX0_bar_18 : decode cX0_bar 18 = .ok (.istore_n 3, 1) := by decide +kernel
theorem dX0_bar_19 : decode cX0_bar 19 = .ok (.iconst 0, 1) := by decide +kernel
theorem dX0_bar_20 : decode cX0_bar 20 = .ok (.istore 4, 2) := by decide +kernel
theorem dX0_bar_22 : decode cX0_bar 22 = .ok (.iload 4, 2) := by decide +kernel
theorem dX0_bar_24 : decode cX0_bar 24 = .ok (.aload_n 0, 1) := by decide +kernel
theorem dX0_bar_25 : decode cX0_bar 25 = .ok (.getfield 26, 3) := by decide +kernel
theorem dX0_bar_28 : decode cX0_bar 28 = .ok (.if_icmp .ge 61, 3) := by decide +kernel
theorem dX0_bar_31 : decode cX0_bar 31 = .ok (.aload_n 0, 1) := by decide +kernel
theorem dX0_bar_32 : decode cX0_bar 32 = .ok (.getfield 7, 3) := by decide +kernel
theorem dX0_bar_35 : decode cX0_bar 35 = .ok (.iload 4, 2) := by decide +kernel
theorem dX0_bar_37 : decode cX0_bar 37 = .ok (.bipush 100, 2) := by decide +kernel
theorem dX0_bar_39 : decode cX0_bar 39 = .ok (.aload_n 0, 1) := by decide +kernel
theorem dX0_bar_40 : decode cX0_bar 40 = .ok (.getfield 7, 3) := by decide +kernel
theorem dX0_bar_43 : decode cX0_bar 43 = .ok (.iload 4, 2) := by decide +kernel
theorem dX0_bar_45 : decode cX0_bar 45 = .ok (.iaload, 1) := by decide +kernel
theorem dX0_bar_46 : decode cX0_bar 46 = .ok (.imul, 1) := by decide +kernel
theorem dX0_bar_47 : decode cX0_bar 47 = .ok (.iload_n 1, 1) := by decide +kernel
theorem dX0_bar_48 : decode cX0_bar 48 = .ok (.iload_n 2, 1) := by decide +kernel
theorem dX0_bar_49 : decode cX0_bar 49 = .ok (.imul, 1) := by decide +kernel
theorem dX0_bar_50 : decode cX0_bar 50 = .ok (.if_icmp .ge 7, 3) := by decide +kernel
theorem dX0_bar_53 : decode cX0_bar 53 = .ok (.iconst 0, 1) := by decide +kernel
theorem dX0_bar_54 : decode cX0_bar 54 = .ok (.goto 10, 3) := by decide +kernel
theorem dX0_bar_57 : decode cX0_bar 57 = .ok (.aload_n 0, 1) := by decide +kernel
theorem dX0_bar_58 : decode cX0_bar 58 = .ok (.getfield 7, 3) := by decide +kernel
theorem dX0_bar_61 : decode cX0_bar 61 = .ok (.iload 4, 2) := by decide +kernel
theorem dX0_bar_63 : decode cX0_bar 63 = .ok (.iaload, 1) := by decide +kernel
theorem dX0_bar_64 : decode cX0_bar 64 = .ok (.iastore, 1) := by decide +kernel
theorem dX0_bar_65 : decode cX0_bar 65 = .ok (.aload_n 0, 1) := by decide +kernel
theorem dX0_bar_66 : decode cX0_bar 66 = .ok (.getfield 7, 3) := by decide +kernel
theorem dX0_bar_69 : decode cX0_bar 69 = .ok (.iload 4, 2) := by decide +kernel
theorem dX0_bar_71 : decode cX0_bar 71 = .ok (.iaload, 1) := by decide +kernel
theorem dX0_bar_72 : decode cX0_bar 72 = .ok (.ifCond .le 9, 3) := by decide +kernel
theorem dX0_bar_75 : decode cX0_bar 75 = .ok (.iload_n 3, 1) := by decide +kernel
theorem dX0_bar_76 : decode cX0_bar 76 = .ok (.iconst 1, 1) := by decide +kernel
theorem dX0_bar_77 : decode cX0_bar 77 = .ok (.iadd, 1) := by decide +kernel
theorem dX0_bar_78 : decode cX0_bar 78 = .ok (.goto 4, 3) := by decide +kernel
theorem dX0_bar_81 : decode cX0_bar 81 = .ok (.iload_n 3, 1) := by decide +kernel
theorem dX0_bar_82 : decode cX0_bar 82 = .ok (.istore_n 3, 1) := by decide +kernel
theorem dX0_bar_83 : decode cX0_bar 83 = .ok (.iinc 4 1, 3) := by decide +kernel
theorem dX0_bar_86 : decode cX0_bar 86 = .ok (.goto (-64), 3) := by decide +kernel
theorem dX0_bar_89 : decode cX0_bar 89 = .ok (.iload_n 3, 1) := by decide +kernel
theorem dX0_bar_90 : decode cX0_bar 90 = .ok (.ireturn, 1) := by decide +kernel
abbrev cX0_allVotes : ByteArray := prog_1_method_9_code
def yX0_allVotes : MethodName := ⟨RX0, "allVotes", "()I"⟩
theorem dX0_allVotes_0 : decode cX0_allVotes 0 = .ok (.iconst 0, 1) := by decide +kernel
theorem dX0_allVotes_1 : decode cX0_allVotes 1 = .ok (.istore_n 1, 1) := by decide +kernel
theorem dX0_allVotes_2 : decode cX0_allVotes 2 = .ok (.iconst 0, 1) := by decide +kernel
theorem dX0_allVotes_3 : decode cX0_allVotes 3 = .ok (.istore_n 2, 1) := by decide +kernel
theorem dX0_allVotes_4 : decode cX0_allVotes 4 = .ok (.iload_n 2, 1) := by decide +kernel
theorem dX0_allVotes_5 : decode cX0_allVotes 5 = .ok (.aload_n 0, 1) := by decide +kernel
theorem dX0_allVotes_6 : decode cX0_allVotes 6 = .ok (.getfield 26, 3) := by decide +kernel
theorem dX0_allVotes_9 : decode cX0_allVotes 9 = .ok (.if_icmp .ge 18, 3) := by decide +kernel
theorem dX0_allVotes_12 : decode cX0_allVotes 12 = .ok (.iload_n 1, 1) := by decide +kernel
theorem dX0_allVotes_13 : decode cX0_allVotes 13 = .ok (.aload_n 0, 1) := by decide +kernel
theorem dX0_allVotes_14 : decode cX0_allVotes 14 = .ok (.getfield 7, 3) := by decide +kernel
theorem dX0_allVotes_17 : decode cX0_allVotes 17 = .ok (.iload_n 2, 1) := by decide +kernel
theorem dX0_allVotes_18 : decode cX0_allVotes 18 = .ok (.iaload, 1) := by decide +kernel
theorem dX0_allVotes_19 : decode cX0_allVotes 19 = .ok (.iadd, 1) := by decide +kernel
theorem dX0_allVotes_20 : decode cX0_allVotes 20 = .ok (.istore_n 1, 1) := by decide +kernel
theorem dX0_allVotes_21 : decode cX0_allVotes 21 = .ok (.iinc 2 1, 3) := by decide +kernel
theorem dX0_allVotes_24 : decode cX0_allVotes 24 = .ok (.goto (-20), 3) := by decide +kernel
theorem dX0_allVotes_27 : decode cX0_allVotes 27 = .ok (.iload_n 1, 1) := by decide +kernel
theorem dX0_allVotes_28 : decode cX0_allVotes 28 = .ok (.ireturn, 1) := by decide +kernel
abbrev cX0_lists : ByteArray := prog_1_method_11_code
def yX0_lists : MethodName := ⟨RX0, "lists", "()I"⟩
theorem dX0_lists_0 : decode cX0_lists 0 = .ok (.aload_n 0, 1) := by decide +kernel
theorem dX0_lists_1 : decode cX0_lists 1 = .ok (.getfield 26, 3) := by decide +kernel
theorem dX0_lists_4 : decode cX0_lists 4 = .ok (.ireturn, 1) := by decide +kernel
abbrev cX0_votes : ByteArray := prog_1_method_12_code
def yX0_votes : MethodName := ⟨RX0, "votes", "()I"⟩
theorem dX0_votes_0 : decode cX0_votes 0 = .ok (.aload_n 0, 1) := by decide +kernel
theorem dX0_votes_1 : decode cX0_votes 1 = .ok (.invokevirtual 40, 3) := by decide +kernel
theorem dX0_votes_4 : decode cX0_votes 4 = .ok (.ireturn, 1) := by decide +kernel
abbrev cX0_share : ByteArray := prog_1_method_23_code
def yX0_share : MethodName := ⟨RX0, "share", "(II)I"⟩
theorem dX0_share_0 : decode cX0_share 0 = .ok (.aload_n 0, 1) := by decide +kernel
theorem dX0_share_1 : decode cX0_share 1 = .ok (.iload_n 1, 1) := by decide +kernel
theorem dX0_share_2 : decode cX0_share 2 = .ok (.invokevirtual 83, 3) := by decide +kernel
theorem dX0_share_5 : decode cX0_share 5 = .ok (.ifCond .ne 11, 3) := by decide +kernel
theorem dX0_share_8 : decode cX0_share 8 = .ok (.aload_n 0, 1) := by decide +kernel
theorem dX0_share_9 : decode cX0_share 9 = .ok (.iload_n 2, 1) := by decide +kernel
theorem dX0_share_10 : decode cX0_share 10 = .ok (.invokevirtual 34, 3) := by decide +kernel
theorem dX0_share_13 : decode cX0_share 13 = .ok (.ifCond .eq 5, 3) := by decide +kernel
theorem dX0_share_16 : decode cX0_share 16 = .ok (.iconst (-1), 1) := by decide +kernel
theorem dX0_share_17 : decode cX0_share 17 = .ok (.ireturn, 1) := by decide +kernel
theorem dX0_share_18 : decode cX0_share 18 = .ok (.aload_n 0, 1) := by decide +kernel
theorem dX0_share_19 : decode cX0_share 19 = .ok (.iload_n 1, 1) := by decide +kernel
theorem dX0_share_20 : decode cX0_share 20 = .ok (.aload_n 0, 1) := by decide +kernel
theorem dX0_share_21 : decode cX0_share 21 = .ok (.getfield 37, 3) := by decide +kernel
theorem dX0_share_24 : decode cX0_share 24 = .ok (.invokevirtual 86, 3) := by decide +kernel
theorem dX0_share_27 : decode cX0_share 27 = .ok (.aload_n 0, 1) := by decide +kernel
theorem dX0_share_28 : decode cX0_share 28 = .ok (.getfield 13, 3) := by decide +kernel
theorem dX0_share_31 : decode cX0_share 31 = .ok (.iload_n 2, 1) := by decide +kernel
theorem dX0_share_32 : decode cX0_share 32 = .ok (.iaload, 1) := by decide +kernel
theorem dX0_share_33 : decode cX0_share 33 = .ok (.ireturn, 1) := by decide +kernel
abbrev cX0_badRule : ByteArray := prog_1_method_4_code
def yX0_badRule : MethodName := ⟨RX0, "badRule", "(I)Z"⟩
theorem dX0_badRule_0 : decode cX0_badRule 0 = .ok (.iload_n 1, 1) := by decide +kernel
theorem dX0_badRule_1 : decode cX0_badRule 1 = .ok (.ifCond .lt 9, 3) := by decide +kernel
theorem dX0_badRule_4 : decode cX0_badRule 4 = .ok (.iload_n 1, 1) := by decide +kernel
theorem dX0_badRule_5 : decode cX0_badRule 5 = .ok (.bipush 7, 2) := by decide +kernel
theorem dX0_badRule_7 : decode cX0_badRule 7 = .ok (.if_icmp .lt 7, 3) := by decide +kernel
theorem dX0_badRule_10 : decode cX0_badRule 10 = .ok (.iconst 1, 1) := by decide +kernel
theorem dX0_badRule_11 : decode cX0_badRule 11 = .ok (.goto 4, 3) := by decide +kernel
theorem dX0_badRule_14 : decode cX0_badRule 14 = .ok (.iconst 0, 1) := by decide +kernel
theorem dX0_badRule_15 : decode cX0_badRule 15 = .ok (.ireturn, 1) := by decide +kernel
abbrev cX0_shareOut : ByteArray := prog_1_method_22_code
def yX0_shareOut : MethodName := ⟨RX0, "shareOut", "(II)V"⟩
theorem dX0_shareOut_0 : decode cX0_shareOut 0 = .ok (.aload_n 0, 1) := by decide +kernel
theorem dX0_shareOut_1 : decode cX0_shareOut 1 = .ok (.invokevirtual 40, 3) := by decide +kernel
theorem dX0_shareOut_4 : decode cX0_shareOut 4 = .ok (.istore_n 3, 1) := by decide +kernel
theorem dX0_shareOut_5 : decode cX0_shareOut 5 = .ok (.iload_n 3, 1) := by decide +kernel
theorem dX0_shareOut_6 : decode cX0_shareOut 6 = .ok (.ifCond .ne 32, 3) := by decide +kernel
theorem dX0_shareOut_9 : decode cX0_shareOut 9 = .ok (.iconst 0, 1) := by decide +kernel
theorem dX0_shareOut_10 : decode cX0_shareOut 10 = .ok (.istore 4, 2) := by decide +kernel
theorem dX0_shareOut_12 : decode cX0_shareOut 12 = .ok (.iload 4, 2) := by decide +kernel
theorem dX0_shareOut_14 : decode cX0_shareOut 14 = .ok (.aload_n 0, 1) := by decide +kernel
theorem dX0_shareOut_15 : decode cX0_shareOut 15 = .ok (.getfield 26, 3) := by decide +kernel
theorem dX0_shareOut_18 : decode cX0_shareOut 18 = .ok (.if_icmp .ge 17, 3) := by decide +kernel
theorem dX0_shareOut_21 : decode cX0_shareOut 21 = .ok (.aload_n 0, 1) := by decide +kernel
theorem dX0_shareOut_22 : decode cX0_shareOut 22 = .ok (.getfield 13, 3) := by decide +kernel
theorem dX0_shareOut_25 : decode cX0_shareOut 25 = .ok (.iload 4, 2) := by decide +kernel
theorem dX0_shareOut_27 : decode cX0_shareOut 27 = .ok (.iconst 0, 1) := by decide +kernel
theorem dX0_shareOut_28 : decode cX0_shareOut 28 = .ok (.iastore, 1) := by decide +kernel
theorem dX0_shareOut_29 : decode cX0_shareOut 29 = .ok (.iinc 4 1, 3) := by decide +kernel
theorem dX0_shareOut_32 : decode cX0_shareOut 32 = .ok (.goto (-20), 3) := by decide +kernel
theorem dX0_shareOut_35 : decode cX0_shareOut 35 = .ok (.goto 25, 3) := by decide +kernel
theorem dX0_shareOut_38 : decode cX0_shareOut 38 = .ok (.iload_n 1, 1) := by decide +kernel
theorem dX0_shareOut_39 : decode cX0_shareOut 39 = .ok (.iconst 5, 1) := by decide +kernel
theorem dX0_shareOut_40 : decode cX0_shareOut 40 = .ok (.if_icmp .ge 13, 3) := by decide +kernel
theorem dX0_shareOut_43 : decode cX0_shareOut 43 = .ok (.aload_n 0, 1) := by decide +kernel
theorem dX0_shareOut_44 : decode cX0_shareOut 44 = .ok (.iload_n 1, 1) := by decide +kernel
theorem dX0_shareOut_45 : decode cX0_shareOut 45 = .ok (.iload_n 2, 1) := by decide +kernel
theorem dX0_shareOut_46 : decode cX0_shareOut 46 = .ok (.iload_n 3, 1) := by decide +kernel
theorem dX0_shareOut_47 : decode cX0_shareOut 47 = .ok (.invokevirtual 76, 3) := by decide +kernel
theorem dX0_shareOut_50 : decode cX0_shareOut 50 = .ok (.goto 10, 3) := by decide +kernel
theorem dX0_shareOut_53 : decode cX0_shareOut 53 = .ok (.aload_n 0, 1) := by decide +kernel
theorem dX0_shareOut_54 : decode cX0_shareOut 54 = .ok (.iload_n 1, 1) := by decide +kernel
theorem dX0_shareOut_55 : decode cX0_shareOut 55 = .ok (.iload_n 2, 1) := by decide +kernel
theorem dX0_shareOut_56 : decode cX0_shareOut 56 = .ok (.iload_n 3, 1) := by decide +kernel
theorem dX0_shareOut_57 : decode cX0_shareOut 57 = .ok (.invokevirtual 80, 3) := by decide +kernel
theorem dX0_shareOut_60 : decode cX0_shareOut 60 = .ok (.return_, 1) := by decide +kernel
abbrev cX0_shareByQuotients : ByteArray := prog_1_method_19_code
def yX0_shareByQuotients : MethodName := ⟨RX0, "shareByQuotients", "(III)V"⟩
theorem dX0_shareByQuotients_0 : decode cX0_shareByQuotients 0 = .ok (.iconst 0, 1) := by decide +kernel
theorem dX0_shareByQuotients_1 : decode cX0_shareByQuotients 1 = .ok (.istore 4, 2) := by decide +kernel
theorem dX0_shareByQuotients_3 : decode cX0_shareByQuotients 3 = .ok (.iconst 0, 1) := by decide +kernel
theorem dX0_shareByQuotients_4 : decode cX0_shareByQuotients 4 = .ok (.istore 5, 2) := by decide +kernel
theorem dX0_shareByQuotients_6 : decode cX0_shareByQuotients 6 = .ok (.iload 5, 2) := by decide +kernel
theorem dX0_shareByQuotients_8 : decode cX0_shareByQuotients 8 = .ok (.aload_n 0, 1) := by decide +kernel
theorem dX0_shareByQuotients_9 : decode cX0_shareByQuotients 9 = .ok (.getfield 26, 3) := by decide +kernel
theorem dX0_shareByQuotients_12 : decode cX0_shareByQuotients 12 = .ok (.if_icmp .ge 45, 3) := by decide +kernel
theorem dX0_shareByQuotients_15 : decode cX0_shareByQuotients 15 = .ok (.aload_n 0, 1) := by decide +kernel
theorem dX0_shareByQuotients_16 : decode cX0_shareByQuotients 16 = .ok (.getfield 13, 3) := by decide +kernel
theorem dX0_shareByQuotients_19 : decode cX0_shareByQuotients 19 = .ok (.iload 5, 2) := by decide +kernel
theorem dX0_shareByQuotients_21 : decode cX0_shareByQuotients 21 = .ok (.iload_n 2, 1) := by decide +kernel
theorem dX0_shareByQuotients_22 : decode cX0_shareByQuotients 22 = .ok (.ifCond .ne 7, 3) := by decide +kernel
theorem dX0_shareByQuotients_25 : decode cX0_shareByQuotients 25 = .ok (.iconst 0, 1) := by decide +kernel
theorem dX0_shareByQuotients_26 : decode cX0_shareByQuotients 26 = .ok (.goto 12, 3) := by decide +kernel
theorem dX0_shareByQuotients_29 : decode cX0_shareByQuotients 29 = .ok (.aload_n 0, 1) := by decide +kernel
theorem dX0_shareByQuotients_30 : decode cX0_shareByQuotients 30 = .ok (.iload_n 1, 1) := by decide +kernel
theorem dX0_shareByQuotients_31 : decode cX0_shareByQuotients 31 = .ok (.iload 5, 2) := by decide +kernel
theorem dX0_shareByQuotients_33 : decode cX0_shareByQuotients 33 = .ok (.iload_n 2, 1) := by decide +kernel
theorem dX0_shareByQuotients_34 : decode cX0_shareByQuotients 34 = .ok (.iload_n 3, 1) := by decide +kernel
theorem dX0_shareByQuotients_35 : decode cX0_shareByQuotients 35 = .ok (.invokevirtual 62, 3) := by decide +kernel
theorem dX0_shareByQuotients_38 : decode cX0_shareByQuotients 38 = .ok (.iastore, 1) := by decide +kernel
theorem dX0_shareByQuotients_39 : decode cX0_shareByQuotients 39 = .ok (.iload 4, 2) := by decide +kernel
theorem dX0_shareByQuotients_41 : decode cX0_shareByQuotients 41 = .ok (.aload_n 0, 1) := by decide +kernel
theorem dX0_shareByQuotients_42 : decode cX0_shareByQuotients 42 = .ok (.getfield 13, 3) := by decide +kernel
theorem dX0_shareByQuotients_45 : decode cX0_shareByQuotients 45 = .ok (.iload 5, 2) := by decide +kernel
theorem dX0_shareByQuotients_47 : decode cX0_shareByQuotients 47 = .ok (.iaload, 1) := by decide +kernel
theorem dX0_shareByQuotients_48 : decode cX0_shareByQuotients 48 = .ok (.iadd, 1) := by decide +kernel
theorem dX0_shareByQuotients_49 : decode cX0_shareByQuotients 49 = .ok (.istore 4, 2) := by decide +kernel
theorem dX0_shareByQuotients_51 : decode cX0_shareByQuotients 51 = .ok (.iinc 5 1, 3) := by decide +kernel
theorem dX0_shareByQuotients_54 : decode cX0_shareByQuotients 54 = .ok (.goto (-48), 3) := by decide +kernel
theorem dX0_shareByQuotients_57 : decode cX0_shareByQuotients 57 = .ok (.iload 4, 2) := by decide +kernel
theorem dX0_shareByQuotients_59 : decode cX0_shareByQuotients 59 = .ok (.iload_n 2, 1) := by decide +kernel
theorem dX0_shareByQuotients_60 : decode cX0_shareByQuotients 60 = .ok (.if_icmp .le 27, 3) := by decide +kernel
theorem dX0_shareByQuotients_63 : decode cX0_shareByQuotients 63 = .ok (.aload_n 0, 1) := by decide +kernel
theorem dX0_shareByQuotients_64 : decode cX0_shareByQuotients 64 = .ok (.iload_n 1, 1) := by decide +kernel
theorem dX0_shareByQuotients_65 : decode cX0_shareByQuotients 65 = .ok (.invokevirtual 66, 3) := by decide +kernel
theorem dX0_shareByQuotients_68 : decode cX0_shareByQuotients 68 = .ok (.istore 5, 2) := by decide +kernel
theorem dX0_shareByQuotients_70 : decode cX0_shareByQuotients 70 = .ok (.aload_n 0, 1) := by decide +kernel
theorem dX0_shareByQuotients_71 : decode cX0_shareByQuotients 71 = .ok (.getfield 13, 3) := by decide +kernel
theorem dX0_shareByQuotients_74 : decode cX0_shareByQuotients 74 = .ok (.iload 5, 2) := by decide +kernel
theorem dX0_shareByQuotients_76 : decode cX0_shareByQuotients 76 = .ok (.dup2, 1) := by decide +kernel
theorem dX0_shareByQuotients_77 : decode cX0_shareByQuotients 77 = .ok (.iaload, 1) := by decide +kernel
theorem dX0_shareByQuotients_78 : decode cX0_shareByQuotients 78 = .ok (.iconst 1, 1) := by decide +kernel
theorem dX0_shareByQuotients_79 : decode cX0_shareByQuotients 79 = .ok (.isub, 1) := by decide +kernel
theorem dX0_shareByQuotients_80 : decode cX0_shareByQuotients 80 = .ok (.iastore, 1) := by decide +kernel
theorem dX0_shareByQuotients_81 : decode cX0_shareByQuotients 81 = .ok (.iinc 4 (-1), 3) := by decide +kernel
theorem dX0_shareByQuotients_84 : decode cX0_shareByQuotients 84 = .ok (.goto (-27), 3) := by decide +kernel
theorem dX0_shareByQuotients_87 : decode cX0_shareByQuotients 87 = .ok (.iload 4, 2) := by decide +kernel
theorem dX0_shareByQuotients_89 : decode cX0_shareByQuotients 89 = .ok (.iload_n 2, 1) := by decide +kernel
theorem dX0_shareByQuotients_90 : decode cX0_shareByQuotients 90 = .ok (.if_icmp .ge 27, 3) := by decide +kernel
theorem dX0_shareByQuotients_93 : decode cX0_shareByQuotients 93 = .ok (.aload_n 0, 1) := by decide +kernel
theorem dX0_shareByQuotients_94 : decode cX0_shareByQuotients 94 = .ok (.iload_n 1, 1) := by decide +kernel
theorem dX0_shareByQuotients_95 : decode cX0_shareByQuotients 95 = .ok (.invokevirtual 70, 3) := by decide +kernel
theorem dX0_shareByQuotients_98 : decode cX0_shareByQuotients 98 = .ok (.istore 5, 2) := by decide +kernel
theorem dX0_shareByQuotients_100 : decode cX0_shareByQuotients 100 = .ok (.aload_n 0, 1) := by decide +kernel
theorem dX0_shareByQuotients_101 : decode cX0_shareByQuotients 101 = .ok (.getfield 13, 3) := by decide +kernel
theorem dX0_shareByQuotients_104 : decode cX0_shareByQuotients 104 = .ok (.iload 5, 2) := by decide +kernel
theorem dX0_shareByQuotients_106 : decode cX0_shareByQuotients 106 = .ok (.dup2, 1) := by decide +kernel
theorem dX0_shareByQuotients_107 : decode cX0_shareByQuotients 107 = .ok (.iaload, 1) := by decide +kernel
theorem dX0_shareByQuotients_108 : decode cX0_shareByQuotients 108 = .ok (.iconst 1, 1) := by decide +kernel
theorem dX0_shareByQuotients_109 : decode cX0_shareByQuotients 109 = .ok (.iadd, 1) := by decide +kernel
theorem dX0_shareByQuotients_110 : decode cX0_shareByQuotients 110 = .ok (.iastore, 1) := by decide +kernel
theorem dX0_shareByQuotients_111 : decode cX0_shareByQuotients 111 = .ok (.iinc 4 1, 3) := by decide +kernel
theorem dX0_shareByQuotients_114 : decode cX0_shareByQuotients 114 = .ok (.goto (-27), 3) := by decide +kernel
theorem dX0_shareByQuotients_117 : decode cX0_shareByQuotients 117 = .ok (.return_, 1) := by decide +kernel
abbrev cX0_startShare : ByteArray := prog_1_method_18_code
def yX0_startShare : MethodName := ⟨RX0, "startShare", "(IIII)I"⟩
theorem dX0_startShare_0 : decode cX0_startShare 0 = .ok (.iload_n 1, 1) := by decide +kernel
theorem dX0_startShare_1 : decode cX0_startShare 1 = .ok (.iconst 3, 1) := by decide +kernel
theorem dX0_startShare_2 : decode cX0_startShare 2 = .ok (.if_icmp .ne 13, 3) := by decide +kernel
theorem dX0_startShare_5 : decode cX0_startShare 5 = .ok (.iload 4, 2) := by decide +kernel
theorem dX0_startShare_7 : decode cX0_startShare 7 = .ok (.i2l, 1) := by decide +kernel
theorem dX0_startShare_8 : decode cX0_startShare 8 = .ok (.iload 4, 2) := by decide +kernel
theorem dX0_startShare_10 : decode cX0_startShare 10 = .ok (.i2l, 1) := by decide +kernel
theorem dX0_startShare_11 : decode cX0_startShare 11 = .ok (.lmul, 1) := by decide +kernel
theorem dX0_startShare_12 : decode cX0_startShare 12 = .ok (.goto 6, 3) := by decide +kernel
theorem dX0_startShare_15 : decode cX0_startShare 15 = .ok (.iload 4, 2) := by decide +kernel
theorem dX0_startShare_17 : decode cX0_startShare 17 = .ok (.i2l, 1) := by decide +kernel
theorem dX0_startShare_18 : decode cX0_startShare 18 = .ok (.lstore 5, 2) := by decide +kernel
theorem dX0_startShare_20 : decode cX0_startShare 20 = .ok (.iload_n 1, 1) := by decide +kernel
theorem dX0_startShare_21 : decode cX0_startShare 21 = .ok (.ifCond .ne 10, 3) := by decide +kernel
theorem dX0_startShare_24 : decode cX0_startShare 24 = .ok (.iload_n 3, 1) := by decide +kernel
theorem dX0_startShare_25 : decode cX0_startShare 25 = .ok (.iconst 1, 1) := by decide +kernel
theorem dX0_startShare_26 : decode cX0_startShare 26 = .ok (.iadd, 1) := by decide +kernel
theorem dX0_startShare_27 : decode cX0_startShare 27 = .ok (.i2l, 1) := by decide +kernel
theorem dX0_startShare_28 : decode cX0_startShare 28 = .ok (.goto 54, 3) := by decide +kernel
theorem dX0_startShare_31 : decode cX0_startShare 31 = .ok (.iload_n 1, 1) := by decide +kernel
theorem dX0_startShare_32 : decode cX0_startShare 32 = .ok (.iconst 1, 1) := by decide +kernel
theorem dX0_startShare_33 : decode cX0_startShare 33 = .ok (.if_icmp .ne 14, 3) := by decide +kernel
theorem dX0_startShare_36 : decode cX0_startShare 36 = .ok (.ldc2_w 56, 3) := by decide +kernel
theorem dX0_startShare_39 : decode cX0_startShare 39 = .ok (.iload_n 3, 1) := by decide +kernel
theorem dX0_startShare_40 : decode cX0_startShare 40 = .ok (.i2l, 1) := by decide +kernel
theorem dX0_startShare_41 : decode cX0_startShare 41 = .ok (.lmul, 1) := by decide +kernel
theorem dX0_startShare_42 : decode cX0_startShare 42 = .ok (.lconst 1, 1) := by decide +kernel
theorem dX0_startShare_43 : decode cX0_startShare 43 = .ok (.ladd, 1) := by decide +kernel
theorem dX0_startShare_44 : decode cX0_startShare 44 = .ok (.goto 38, 3) := by decide +kernel
theorem dX0_startShare_47 : decode cX0_startShare 47 = .ok (.iload_n 1, 1) := by decide +kernel
theorem dX0_startShare_48 : decode cX0_startShare 48 = .ok (.iconst 2, 1) := by decide +kernel
theorem dX0_startShare_49 : decode cX0_startShare 49 = .ok (.if_icmp .ne 16, 3) := by decide +kernel
theorem dX0_startShare_52 : decode cX0_startShare 52 = .ok (.ldc2_w 58, 3) := by decide +kernel
theorem dX0_startShare_55 : decode cX0_startShare 55 = .ok (.iload_n 3, 1) := by decide +kernel
theorem dX0_startShare_56 : decode cX0_startShare 56 = .ok (.i2l, 1) := by decide +kernel
theorem dX0_startShare_57 : decode cX0_startShare 57 = .ok (.lmul, 1) := by decide +kernel
theorem dX0_startShare_58 : decode cX0_startShare 58 = .ok (.ldc2_w 60, 3) := by decide +kernel
theorem dX0_startShare_61 : decode cX0_startShare 61 = .ok (.ladd, 1) := by decide +kernel
theorem dX0_startShare_62 : decode cX0_startShare 62 = .ok (.goto 20, 3) := by decide +kernel
theorem dX0_startShare_65 : decode cX0_startShare 65 = .ok (.iload_n 1, 1) := by decide +kernel
theorem dX0_startShare_66 : decode cX0_startShare 66 = .ok (.iconst 3, 1) := by decide +kernel
theorem dX0_startShare_67 : decode cX0_startShare 67 = .ok (.if_icmp .ne 13, 3) := by decide +kernel
theorem dX0_startShare_70 : decode cX0_startShare 70 = .ok (.iload_n 3, 1) := by decide +kernel
theorem dX0_startShare_71 : decode cX0_startShare 71 = .ok (.i2l, 1) := by decide +kernel
theorem dX0_startShare_72 : decode cX0_startShare 72 = .ok (.iload_n 3, 1) := by decide +kernel
theorem dX0_startShare_73 : decode cX0_startShare 73 = .ok (.iconst 1, 1) := by decide +kernel
theorem dX0_startShare_74 : decode cX0_startShare 74 = .ok (.iadd, 1) := by decide +kernel
theorem dX0_startShare_75 : decode cX0_startShare 75 = .ok (.i2l, 1) := by decide +kernel
theorem dX0_startShare_76 : decode cX0_startShare 76 = .ok (.lmul, 1) := by decide +kernel
theorem dX0_startShare_77 : decode cX0_startShare 77 = .ok (.goto 5, 3) := by decide +kernel
theorem dX0_startShare_80 : decode cX0_startShare 80 = .ok (.iload_n 3, 1) := by decide +kernel
theorem dX0_startShare_81 : decode cX0_startShare 81 = .ok (.i2l, 1) := by decide +kernel
theorem dX0_startShare_82 : decode cX0_startShare 82 = .ok (.lstore 7, 2) := by decide +kernel
theorem dX0_startShare_84 : decode cX0_startShare 84 = .ok (.iconst 0, 1) := by decide +kernel
theorem dX0_startShare_85 : decode cX0_startShare 85 = .ok (.istore 9, 2) := by decide +kernel
theorem dX0_startShare_87 : decode cX0_startShare 87 = .ok (.aload_n 0, 1) := by decide +kernel
theorem dX0_startShare_88 : decode cX0_startShare 88 = .ok (.getfield 7, 3) := by decide +kernel
theorem dX0_startShare_91 : decode cX0_startShare 91 = .ok (.iload_n 2, 1) := by decide +kernel
theorem dX0_startShare_92 : decode cX0_startShare 92 = .ok (.iaload, 1) := by decide +kernel
theorem dX0_startShare_93 : decode cX0_startShare 93 = .ok (.ifCond .le 39, 3) := by decide +kernel
theorem dX0_startShare_96 : decode cX0_startShare 96 = .ok (.iload 9, 2) := by decide +kernel
theorem dX0_startShare_98 : decode cX0_startShare 98 = .ok (.iload_n 3, 1) := by decide +kernel
theorem dX0_startShare_99 : decode cX0_startShare 99 = .ok (.if_icmp .gt 33, 3) := by decide +kernel
theorem dX0_startShare_102 : decode cX0_startShare 102 = .ok (.aload_n 0, 1) := by decide +kernel
theorem dX0_startShare_103 : decode cX0_startShare 103 = .ok (.iload_n 1, 1) := by decide +kernel
theorem dX0_startShare_104 : decode cX0_startShare 104 = .ok (.iload_n 2, 1) := by decide +kernel
theorem dX0_startShare_105 : decode cX0_startShare 105 = .ok (.invokevirtual 48, 3) := by decide +kernel
theorem dX0_startShare_108 : decode cX0_startShare 108 = .ok (.lload 7, 2) := by decide +kernel
theorem dX0_startShare_110 : decode cX0_startShare 110 = .ok (.lmul, 1) := by decide +kernel
theorem dX0_startShare_111 : decode cX0_startShare 111 = .ok (.lload 5, 2) := by decide +kernel
theorem dX0_startShare_113 : decode cX0_startShare 113 = .ok (.aload_n 0, 1) := by decide +kernel
theorem dX0_startShare_114 : decode cX0_startShare 114 = .ok (.iload_n 1, 1) := by decide +kernel
theorem dX0_startShare_115 : decode cX0_startShare 115 = .ok (.iload 9, 2) := by decide +kernel
theorem dX0_startShare_117 : decode cX0_startShare 117 = .ok (.invokevirtual 44, 3) := by decide +kernel
theorem dX0_startShare_120 : decode cX0_startShare 120 = .ok (.i2l, 1) := by decide +kernel
theorem dX0_startShare_121 : decode cX0_startShare 121 = .ok (.lmul, 1) := by decide +kernel
theorem dX0_startShare_122 : decode cX0_startShare 122 = .ok (.lcmp, 1) := by decide +kernel
theorem dX0_startShare_123 : decode cX0_startShare 123 = .ok (.ifCond .lt 9, 3) := by decide +kernel
theorem dX0_startShare_126 : decode cX0_startShare 126 = .ok (.iinc 9 1, 3) := by decide +kernel
theorem dX0_startShare_129 : decode cX0_startShare 129 = .ok (.goto (-42), 3) := by decide +kernel
theorem dX0_startShare_132 : decode cX0_startShare 132 = .ok (.iload 9, 2) := by decide +kernel
theorem dX0_startShare_134 : decode cX0_startShare 134 = .ok (.ireturn, 1) := by decide +kernel
abbrev cX0_worth : ByteArray := prog_1_method_14_code
def yX0_worth : MethodName := ⟨RX0, "worth", "(II)J"⟩
theorem dX0_worth_0 : decode cX0_worth 0 = .ok (.aload_n 0, 1) := by decide +kernel
theorem dX0_worth_1 : decode cX0_worth 1 = .ok (.getfield 7, 3) := by decide +kernel
theorem dX0_worth_4 : decode cX0_worth 4 = .ok (.iload_n 2, 1) := by decide +kernel
theorem dX0_worth_5 : decode cX0_worth 5 = .ok (.iaload, 1) := by decide +kernel
theorem dX0_worth_6 : decode cX0_worth 6 = .ok (.i2l, 1) := by decide +kernel
theorem dX0_worth_7 : decode cX0_worth 7 = .ok (.lstore_n 3, 1) := by decide +kernel
theorem dX0_worth_8 : decode cX0_worth 8 = .ok (.iload_n 1, 1) := by decide +kernel
theorem dX0_worth_9 : decode cX0_worth 9 = .ok (.iconst 3, 1) := by decide +kernel
theorem dX0_worth_10 : decode cX0_worth 10 = .ok (.if_icmp .ne 9, 3) := by decide +kernel
theorem dX0_worth_13 : decode cX0_worth 13 = .ok (.lload_n 3, 1) := by decide +kernel
theorem dX0_worth_14 : decode cX0_worth 14 = .ok (.lload_n 3, 1) := by decide +kernel
theorem dX0_worth_15 : decode cX0_worth 15 = .ok (.lmul, 1) := by decide +kernel
theorem dX0_worth_16 : decode cX0_worth 16 = .ok (.goto 4, 3) := by decide +kernel
theorem dX0_worth_19 : decode cX0_worth 19 = .ok (.lload_n 3, 1) := by decide +kernel
theorem dX0_worth_20 : decode cX0_worth 20 = .ok (.lreturn, 1) := by decide +kernel
abbrev cX0_divisor : ByteArray := prog_1_method_13_code
def yX0_divisor : MethodName := ⟨RX0, "divisor", "(II)I"⟩
theorem dX0_divisor_0 : decode cX0_divisor 0 = .ok (.iload_n 1, 1) := by decide +kernel
theorem dX0_divisor_1 : decode cX0_divisor 1 = .ok (.ifCond .ne 7, 3) := by decide +kernel
theorem dX0_divisor_4 : decode cX0_divisor 4 = .ok (.iload_n 2, 1) := by decide +kernel
theorem dX0_divisor_5 : decode cX0_divisor 5 = .ok (.iconst 1, 1) := by decide +kernel
theorem dX0_divisor_6 : decode cX0_divisor 6 = .ok (.iadd, 1) := by decide +kernel
theorem dX0_divisor_7 : decode cX0_divisor 7 = .ok (.ireturn, 1) := by decide +kernel
theorem dX0_divisor_8 : decode cX0_divisor 8 = .ok (.iload_n 1, 1) := by decide +kernel
theorem dX0_divisor_9 : decode cX0_divisor 9 = .ok (.iconst 1, 1) := by decide +kernel
theorem dX0_divisor_10 : decode cX0_divisor 10 = .ok (.if_icmp .ne 9, 3) := by decide +kernel
theorem dX0_divisor_13 : decode cX0_divisor 13 = .ok (.iconst 2, 1) := by decide +kernel
theorem dX0_divisor_14 : decode cX0_divisor 14 = .ok (.iload_n 2, 1) := by decide +kernel
theorem dX0_divisor_15 : decode cX0_divisor 15 = .ok (.imul, 1) := by decide +kernel
theorem dX0_divisor_16 : decode cX0_divisor 16 = .ok (.iconst 1, 1) := by decide +kernel
theorem dX0_divisor_17 : decode cX0_divisor 17 = .ok (.iadd, 1) := by decide +kernel
theorem dX0_divisor_18 : decode cX0_divisor 18 = .ok (.ireturn, 1) := by decide +kernel
theorem dX0_divisor_19 : decode cX0_divisor 19 = .ok (.iload_n 1, 1) := by decide +kernel
theorem dX0_divisor_20 : decode cX0_divisor 20 = .ok (.iconst 2, 1) := by decide +kernel
theorem dX0_divisor_21 : decode cX0_divisor 21 = .ok (.if_icmp .ne 19, 3) := by decide +kernel
theorem dX0_divisor_24 : decode cX0_divisor 24 = .ok (.iload_n 2, 1) := by decide +kernel
theorem dX0_divisor_25 : decode cX0_divisor 25 = .ok (.ifCond .ne 8, 3) := by decide +kernel
theorem dX0_divisor_28 : decode cX0_divisor 28 = .ok (.bipush 7, 2) := by decide +kernel
theorem dX0_divisor_30 : decode cX0_divisor 30 = .ok (.goto 9, 3) := by decide +kernel
theorem dX0_divisor_33 : decode cX0_divisor 33 = .ok (.bipush 10, 2) := by decide +kernel
theorem dX0_divisor_35 : decode cX0_divisor 35 = .ok (.iload_n 2, 1) := by decide +kernel
theorem dX0_divisor_36 : decode cX0_divisor 36 = .ok (.imul, 1) := by decide +kernel
theorem dX0_divisor_37 : decode cX0_divisor 37 = .ok (.iconst 5, 1) := by decide +kernel
theorem dX0_divisor_38 : decode cX0_divisor 38 = .ok (.iadd, 1) := by decide +kernel
theorem dX0_divisor_39 : decode cX0_divisor 39 = .ok (.ireturn, 1) := by decide +kernel
theorem dX0_divisor_40 : decode cX0_divisor 40 = .ok (.iload_n 1, 1) := by decide +kernel
theorem dX0_divisor_41 : decode cX0_divisor 41 = .ok (.iconst 3, 1) := by decide +kernel
theorem dX0_divisor_42 : decode cX0_divisor 42 = .ok (.if_icmp .ne 11, 3) := by decide +kernel
theorem dX0_divisor_45 : decode cX0_divisor 45 = .ok (.iload_n 2, 1) := by decide +kernel
theorem dX0_divisor_46 : decode cX0_divisor 46 = .ok (.iload_n 2, 1) := by decide +kernel
theorem dX0_divisor_47 : decode cX0_divisor 47 = .ok (.iconst 1, 1) := by decide +kernel
theorem dX0_divisor_48 : decode cX0_divisor 48 = .ok (.iadd, 1) := by decide +kernel
theorem dX0_divisor_49 : decode cX0_divisor 49 = .ok (.imul, 1) := by decide +kernel
theorem dX0_divisor_50 : decode cX0_divisor 50 = .ok (.goto 4, 3) := by decide +kernel
theorem dX0_divisor_53 : decode cX0_divisor 53 = .ok (.iload_n 2, 1) := by decide +kernel
theorem dX0_divisor_54 : decode cX0_divisor 54 = .ok (.ireturn, 1) := by decide +kernel
abbrev cX0_lastTaken : ByteArray := prog_1_method_17_code
def yX0_lastTaken : MethodName := ⟨RX0, "lastTaken", "(I)I"⟩
theorem dX0_lastTaken_0 : decode cX0_lastTaken 0 = .ok (.iconst (-1), 1) := by decide +kernel
theorem dX0_lastTaken_1 : decode cX0_lastTaken 1 = .ok (.istore_n 2, 1) := by decide +kernel
theorem dX0_lastTaken_2 : decode cX0_lastTaken 2 = .ok (.iconst 0, 1) := by decide +kernel
theorem dX0_lastTaken_3 : decode cX0_lastTaken 3 = .ok (.istore_n 3, 1) := by decide +kernel
theorem dX0_lastTaken_4 : decode cX0_lastTaken 4 = .ok (.iload_n 3, 1) := by decide +kernel
theorem dX0_lastTaken_5 : decode cX0_lastTaken 5 = .ok (.aload_n 0, 1) := by decide +kernel
theorem dX0_lastTaken_6 : decode cX0_lastTaken 6 = .ok (.getfield 26, 3) := by decide +kernel
theorem dX0_lastTaken_9 : decode cX0_lastTaken 9 = .ok (.if_icmp .ge 50, 3) := by decide +kernel
theorem dX0_lastTaken_12 : decode cX0_lastTaken 12 = .ok (.aload_n 0, 1) := by decide +kernel
theorem dX0_lastTaken_13 : decode cX0_lastTaken 13 = .ok (.getfield 13, 3) := by decide +kernel
theorem dX0_lastTaken_16 : decode cX0_lastTaken 16 = .ok (.iload_n 3, 1) := by decide +kernel
theorem dX0_lastTaken_17 : decode cX0_lastTaken 17 = .ok (.iaload, 1) := by decide +kernel
theorem dX0_lastTaken_18 : decode cX0_lastTaken 18 = .ok (.ifCond .le 35, 3) := by decide +kernel
theorem dX0_lastTaken_21 : decode cX0_lastTaken 21 = .ok (.iload_n 2, 1) := by decide +kernel
theorem dX0_lastTaken_22 : decode cX0_lastTaken 22 = .ok (.ifCond .lt 29, 3) := by decide +kernel
theorem dX0_lastTaken_25 : decode cX0_lastTaken 25 = .ok (.aload_n 0, 1) := by decide +kernel
theorem dX0_lastTaken_26 : decode cX0_lastTaken 26 = .ok (.iload_n 1, 1) := by decide +kernel
theorem dX0_lastTaken_27 : decode cX0_lastTaken 27 = .ok (.iload_n 2, 1) := by decide +kernel
theorem dX0_lastTaken_28 : decode cX0_lastTaken 28 = .ok (.aload_n 0, 1) := by decide +kernel
theorem dX0_lastTaken_29 : decode cX0_lastTaken 29 = .ok (.getfield 13, 3) := by decide +kernel
theorem dX0_lastTaken_32 : decode cX0_lastTaken 32 = .ok (.iload_n 2, 1) := by decide +kernel
end
section
set_option maxRecDepth 100000
theorem dX0_lastTaken_33 : decode cX0_lastTaken 33 = .ok (.iaload, 1) := by decide +kernel
theorem dX0_lastTaken_34 : decode cX0_lastTaken 34 = .ok (.iconst 1, 1) := by decide +kernel
theorem dX0_lastTaken_35 : decode cX0_lastTaken 35 = .ok (.isub, 1) := by decide +kernel
theorem dX0_lastTaken_36 : decode cX0_lastTaken 36 = .ok (.iload_n 3, 1) := by decide +kernel
theorem dX0_lastTaken_37 : decode cX0_lastTaken 37 = .ok (.aload_n 0, 1) := by decide +kernel
theorem dX0_lastTaken_38 : decode cX0_lastTaken 38 = .ok (.getfield 13, 3) := by decide +kernel
theorem dX0_lastTaken_41 : decode cX0_lastTaken 41 = .ok (.iload_n 3, 1) := by decide +kernel
theorem dX0_lastTaken_42 : decode cX0_lastTaken 42 = .ok (.iaload, 1) := by decide +kernel
theorem dX0_lastTaken_43 : decode cX0_lastTaken 43 = .ok (.iconst 1, 1) := by decide +kernel
theorem dX0_lastTaken_44 : decode cX0_lastTaken 44 = .ok (.isub, 1) := by decide +kernel
theorem dX0_lastTaken_45 : decode cX0_lastTaken 45 = .ok (.invokevirtual 52, 3) := by decide +kernel
theorem dX0_lastTaken_48 : decode cX0_lastTaken 48 = .ok (.ifCond .eq 5, 3) := by decide +kernel
theorem dX0_lastTaken_51 : decode cX0_lastTaken 51 = .ok (.iload_n 3, 1) := by decide +kernel
theorem dX0_lastTaken_52 : decode cX0_lastTaken 52 = .ok (.istore_n 2, 1) := by decide +kernel
theorem dX0_lastTaken_53 : decode cX0_lastTaken 53 = .ok (.iinc 3 1, 3) := by decide +kernel
theorem dX0_lastTaken_56 : decode cX0_lastTaken 56 = .ok (.goto (-52), 3) := by decide +kernel
theorem dX0_lastTaken_59 : decode cX0_lastTaken 59 = .ok (.iload_n 2, 1) := by decide +kernel
theorem dX0_lastTaken_60 : decode cX0_lastTaken 60 = .ok (.ireturn, 1) := by decide +kernel
abbrev cX0_before : ByteArray := prog_1_method_15_code
def yX0_before : MethodName := ⟨RX0, "before", "(IIIII)Z"⟩
theorem dX0_before_0 : decode cX0_before 0 = .ok (.aload_n 0, 1) := by decide +kernel
theorem dX0_before_1 : decode cX0_before 1 = .ok (.iload_n 1, 1) := by decide +kernel
theorem dX0_before_2 : decode cX0_before 2 = .ok (.iload_n 3, 1) := by decide +kernel
theorem dX0_before_3 : decode cX0_before 3 = .ok (.invokevirtual 44, 3) := by decide +kernel
theorem dX0_before_6 : decode cX0_before 6 = .ok (.i2l, 1) := by decide +kernel
theorem dX0_before_7 : decode cX0_before 7 = .ok (.lstore 6, 2) := by decide +kernel
theorem dX0_before_9 : decode cX0_before 9 = .ok (.aload_n 0, 1) := by decide +kernel
theorem dX0_before_10 : decode cX0_before 10 = .ok (.iload_n 1, 1) := by decide +kernel
theorem dX0_before_11 : decode cX0_before 11 = .ok (.iload 5, 2) := by decide +kernel
theorem dX0_before_13 : decode cX0_before 13 = .ok (.invokevirtual 44, 3) := by decide +kernel
theorem dX0_before_16 : decode cX0_before 16 = .ok (.i2l, 1) := by decide +kernel
theorem dX0_before_17 : decode cX0_before 17 = .ok (.lstore 8, 2) := by decide +kernel
theorem dX0_before_19 : decode cX0_before 19 = .ok (.aload_n 0, 1) := by decide +kernel
theorem dX0_before_20 : decode cX0_before 20 = .ok (.iload_n 1, 1) := by decide +kernel
theorem dX0_before_21 : decode cX0_before 21 = .ok (.iload_n 2, 1) := by decide +kernel
theorem dX0_before_22 : decode cX0_before 22 = .ok (.invokevirtual 48, 3) := by decide +kernel
theorem dX0_before_25 : decode cX0_before 25 = .ok (.lstore 10, 2) := by decide +kernel
theorem dX0_before_27 : decode cX0_before 27 = .ok (.aload_n 0, 1) := by decide +kernel
theorem dX0_before_28 : decode cX0_before 28 = .ok (.iload_n 1, 1) := by decide +kernel
theorem dX0_before_29 : decode cX0_before 29 = .ok (.iload 4, 2) := by decide +kernel
theorem dX0_before_31 : decode cX0_before 31 = .ok (.invokevirtual 48, 3) := by decide +kernel
theorem dX0_before_34 : decode cX0_before 34 = .ok (.lstore 12, 2) := by decide +kernel
theorem dX0_before_36 : decode cX0_before 36 = .ok (.lload 6, 2) := by decide +kernel
theorem dX0_before_38 : decode cX0_before 38 = .ok (.lconst 0, 1) := by decide +kernel
theorem dX0_before_39 : decode cX0_before 39 = .ok (.lcmp, 1) := by decide +kernel
theorem dX0_before_40 : decode cX0_before 40 = .ok (.ifCond .eq 10, 3) := by decide +kernel
theorem dX0_before_43 : decode cX0_before 43 = .ok (.lload 8, 2) := by decide +kernel
theorem dX0_before_45 : decode cX0_before 45 = .ok (.lconst 0, 1) := by decide +kernel
theorem dX0_before_46 : decode cX0_before 46 = .ok (.lcmp, 1) := by decide +kernel
theorem dX0_before_47 : decode cX0_before 47 = .ok (.ifCond .ne 82, 3) := by decide +kernel
theorem dX0_before_50 : decode cX0_before 50 = .ok (.lload 6, 2) := by decide +kernel
theorem dX0_before_52 : decode cX0_before 52 = .ok (.lload 8, 2) := by decide +kernel
theorem dX0_before_54 : decode cX0_before 54 = .ok (.lcmp, 1) := by decide +kernel
theorem dX0_before_55 : decode cX0_before 55 = .ok (.ifCond .ne 15, 3) := by decide +kernel
theorem dX0_before_58 : decode cX0_before 58 = .ok (.lload 10, 2) := by decide +kernel
theorem dX0_before_60 : decode cX0_before 60 = .ok (.lload 12, 2) := by decide +kernel
theorem dX0_before_62 : decode cX0_before 62 = .ok (.lcmp, 1) := by decide +kernel
theorem dX0_before_63 : decode cX0_before 63 = .ok (.ifCond .ne 7, 3) := by decide +kernel
theorem dX0_before_66 : decode cX0_before 66 = .ok (.iconst 1, 1) := by decide +kernel
theorem dX0_before_67 : decode cX0_before 67 = .ok (.goto 4, 3) := by decide +kernel
theorem dX0_before_70 : decode cX0_before 70 = .ok (.iconst 0, 1) := by decide +kernel
theorem dX0_before_71 : decode cX0_before 71 = .ok (.istore 14, 2) := by decide +kernel
theorem dX0_before_73 : decode cX0_before 73 = .ok (.iload 14, 2) := by decide +kernel
theorem dX0_before_75 : decode cX0_before 75 = .ok (.ifCond .eq 17, 3) := by decide +kernel
theorem dX0_before_78 : decode cX0_before 78 = .ok (.iload_n 2, 1) := by decide +kernel
theorem dX0_before_79 : decode cX0_before 79 = .ok (.iload 4, 2) := by decide +kernel
theorem dX0_before_81 : decode cX0_before 81 = .ok (.if_icmp .ge 7, 3) := by decide +kernel
theorem dX0_before_84 : decode cX0_before 84 = .ok (.iconst 1, 1) := by decide +kernel
theorem dX0_before_85 : decode cX0_before 85 = .ok (.goto 43, 3) := by decide +kernel
theorem dX0_before_88 : decode cX0_before 88 = .ok (.iconst 0, 1) := by decide +kernel
theorem dX0_before_89 : decode cX0_before 89 = .ok (.goto 39, 3) := by decide +kernel
theorem dX0_before_92 : decode cX0_before 92 = .ok (.lload 6, 2) := by decide +kernel
theorem dX0_before_94 : decode cX0_before 94 = .ok (.lload 8, 2) := by decide +kernel
theorem dX0_before_96 : decode cX0_before 96 = .ok (.lcmp, 1) := by decide +kernel
theorem dX0_before_97 : decode cX0_before 97 = .ok (.ifCond .ne 19, 3) := by decide +kernel
theorem dX0_before_100 : decode cX0_before 100 = .ok (.lload 10, 2) := by decide +kernel
theorem dX0_before_102 : decode cX0_before 102 = .ok (.lload 12, 2) := by decide +kernel
theorem dX0_before_104 : decode cX0_before 104 = .ok (.lcmp, 1) := by decide +kernel
theorem dX0_before_105 : decode cX0_before 105 = .ok (.ifCond .le 7, 3) := by decide +kernel
theorem dX0_before_108 : decode cX0_before 108 = .ok (.iconst 1, 1) := by decide +kernel
theorem dX0_before_109 : decode cX0_before 109 = .ok (.goto 19, 3) := by decide +kernel
theorem dX0_before_112 : decode cX0_before 112 = .ok (.iconst 0, 1) := by decide +kernel
theorem dX0_before_113 : decode cX0_before 113 = .ok (.goto 15, 3) := by decide +kernel
theorem dX0_before_116 : decode cX0_before 116 = .ok (.lload 6, 2) := by decide +kernel
theorem dX0_before_118 : decode cX0_before 118 = .ok (.lconst 0, 1) := by decide +kernel
theorem dX0_before_119 : decode cX0_before 119 = .ok (.lcmp, 1) := by decide +kernel
theorem dX0_before_120 : decode cX0_before 120 = .ok (.ifCond .ne 7, 3) := by decide +kernel
theorem dX0_before_123 : decode cX0_before 123 = .ok (.iconst 1, 1) := by decide +kernel
theorem dX0_before_124 : decode cX0_before 124 = .ok (.goto 4, 3) := by decide +kernel
theorem dX0_before_127 : decode cX0_before 127 = .ok (.iconst 0, 1) := by decide +kernel
theorem dX0_before_128 : decode cX0_before 128 = .ok (.ireturn, 1) := by decide +kernel
theorem dX0_before_129 : decode cX0_before 129 = .ok (.lload 10, 2) := by decide +kernel
theorem dX0_before_131 : decode cX0_before 131 = .ok (.lload 8, 2) := by decide +kernel
theorem dX0_before_133 : decode cX0_before 133 = .ok (.lmul, 1) := by decide +kernel
theorem dX0_before_134 : decode cX0_before 134 = .ok (.lstore 14, 2) := by decide +kernel
theorem dX0_before_136 : decode cX0_before 136 = .ok (.lload 12, 2) := by decide +kernel
theorem dX0_before_138 : decode cX0_before 138 = .ok (.lload 6, 2) := by decide +kernel
theorem dX0_before_140 : decode cX0_before 140 = .ok (.lmul, 1) := by decide +kernel
theorem dX0_before_141 : decode cX0_before 141 = .ok (.lstore 16, 2) := by decide +kernel
theorem dX0_before_143 : decode cX0_before 143 = .ok (.lload 14, 2) := by decide +kernel
theorem dX0_before_145 : decode cX0_before 145 = .ok (.lload 16, 2) := by decide +kernel
theorem dX0_before_147 : decode cX0_before 147 = .ok (.lcmp, 1) := by decide +kernel
theorem dX0_before_148 : decode cX0_before 148 = .ok (.ifCond .ne 17, 3) := by decide +kernel
theorem dX0_before_151 : decode cX0_before 151 = .ok (.iload_n 2, 1) := by decide +kernel
theorem dX0_before_152 : decode cX0_before 152 = .ok (.iload 4, 2) := by decide +kernel
theorem dX0_before_154 : decode cX0_before 154 = .ok (.if_icmp .ge 7, 3) := by decide +kernel
theorem dX0_before_157 : decode cX0_before 157 = .ok (.iconst 1, 1) := by decide +kernel
theorem dX0_before_158 : decode cX0_before 158 = .ok (.goto 20, 3) := by decide +kernel
theorem dX0_before_161 : decode cX0_before 161 = .ok (.iconst 0, 1) := by decide +kernel
theorem dX0_before_162 : decode cX0_before 162 = .ok (.goto 16, 3) := by decide +kernel
theorem dX0_before_165 : decode cX0_before 165 = .ok (.lload 14, 2) := by decide +kernel
theorem dX0_before_167 : decode cX0_before 167 = .ok (.lload 16, 2) := by decide +kernel
theorem dX0_before_169 : decode cX0_before 169 = .ok (.lcmp, 1) := by decide +kernel
theorem dX0_before_170 : decode cX0_before 170 = .ok (.ifCond .le 7, 3) := by decide +kernel
theorem dX0_before_173 : decode cX0_before 173 = .ok (.iconst 1, 1) := by decide +kernel
theorem dX0_before_174 : decode cX0_before 174 = .ok (.goto 4, 3) := by decide +kernel
theorem dX0_before_177 : decode cX0_before 177 = .ok (.iconst 0, 1) := by decide +kernel
theorem dX0_before_178 : decode cX0_before 178 = .ok (.ireturn, 1) := by decide +kernel
abbrev cX0_firstNext : ByteArray := prog_1_method_16_code
def yX0_firstNext : MethodName := ⟨RX0, "firstNext", "(I)I"⟩
theorem dX0_firstNext_0 : decode cX0_firstNext 0 = .ok (.iconst (-1), 1) := by decide +kernel
theorem dX0_firstNext_1 : decode cX0_firstNext 1 = .ok (.istore_n 2, 1) := by decide +kernel
theorem dX0_firstNext_2 : decode cX0_firstNext 2 = .ok (.iconst 0, 1) := by decide +kernel
theorem dX0_firstNext_3 : decode cX0_firstNext 3 = .ok (.istore_n 3, 1) := by decide +kernel
theorem dX0_firstNext_4 : decode cX0_firstNext 4 = .ok (.iload_n 3, 1) := by decide +kernel
theorem dX0_firstNext_5 : decode cX0_firstNext 5 = .ok (.aload_n 0, 1) := by decide +kernel
theorem dX0_firstNext_6 : decode cX0_firstNext 6 = .ok (.getfield 26, 3) := by decide +kernel
theorem dX0_firstNext_9 : decode cX0_firstNext 9 = .ok (.if_icmp .ge 46, 3) := by decide +kernel
theorem dX0_firstNext_12 : decode cX0_firstNext 12 = .ok (.aload_n 0, 1) := by decide +kernel
theorem dX0_firstNext_13 : decode cX0_firstNext 13 = .ok (.getfield 7, 3) := by decide +kernel
theorem dX0_firstNext_16 : decode cX0_firstNext 16 = .ok (.iload_n 3, 1) := by decide +kernel
theorem dX0_firstNext_17 : decode cX0_firstNext 17 = .ok (.iaload, 1) := by decide +kernel
theorem dX0_firstNext_18 : decode cX0_firstNext 18 = .ok (.ifCond .le 31, 3) := by decide +kernel
theorem dX0_firstNext_21 : decode cX0_firstNext 21 = .ok (.iload_n 2, 1) := by decide +kernel
theorem dX0_firstNext_22 : decode cX0_firstNext 22 = .ok (.ifCond .lt 25, 3) := by decide +kernel
theorem dX0_firstNext_25 : decode cX0_firstNext 25 = .ok (.aload_n 0, 1) := by decide +kernel
theorem dX0_firstNext_26 : decode cX0_firstNext 26 = .ok (.iload_n 1, 1) := by decide +kernel
theorem dX0_firstNext_27 : decode cX0_firstNext 27 = .ok (.iload_n 3, 1) := by decide +kernel
theorem dX0_firstNext_28 : decode cX0_firstNext 28 = .ok (.aload_n 0, 1) := by decide +kernel
theorem dX0_firstNext_29 : decode cX0_firstNext 29 = .ok (.getfield 13, 3) := by decide +kernel
theorem dX0_firstNext_32 : decode cX0_firstNext 32 = .ok (.iload_n 3, 1) := by decide +kernel
theorem dX0_firstNext_33 : decode cX0_firstNext 33 = .ok (.iaload, 1) := by decide +kernel
theorem dX0_firstNext_34 : decode cX0_firstNext 34 = .ok (.iload_n 2, 1) := by decide +kernel
theorem dX0_firstNext_35 : decode cX0_firstNext 35 = .ok (.aload_n 0, 1) := by decide +kernel
theorem dX0_firstNext_36 : decode cX0_firstNext 36 = .ok (.getfield 13, 3) := by decide +kernel
theorem dX0_firstNext_39 : decode cX0_firstNext 39 = .ok (.iload_n 2, 1) := by decide +kernel
theorem dX0_firstNext_40 : decode cX0_firstNext 40 = .ok (.iaload, 1) := by decide +kernel
theorem dX0_firstNext_41 : decode cX0_firstNext 41 = .ok (.invokevirtual 52, 3) := by decide +kernel
theorem dX0_firstNext_44 : decode cX0_firstNext 44 = .ok (.ifCond .eq 5, 3) := by decide +kernel
theorem dX0_firstNext_47 : decode cX0_firstNext 47 = .ok (.iload_n 3, 1) := by decide +kernel
theorem dX0_firstNext_48 : decode cX0_firstNext 48 = .ok (.istore_n 2, 1) := by decide +kernel
theorem dX0_firstNext_49 : decode cX0_firstNext 49 = .ok (.iinc 3 1, 3) := by decide +kernel
theorem dX0_firstNext_52 : decode cX0_firstNext 52 = .ok (.goto (-48), 3) := by decide +kernel
theorem dX0_firstNext_55 : decode cX0_firstNext 55 = .ok (.iload_n 2, 1) := by decide +kernel
theorem dX0_firstNext_56 : decode cX0_firstNext 56 = .ok (.ireturn, 1) := by decide +kernel
abbrev cX0_shareByRests : ByteArray := prog_1_method_20_code
def yX0_shareByRests : MethodName := ⟨RX0, "shareByRests", "(III)V"⟩
theorem dX0_shareByRests_0 : decode cX0_shareByRests 0 = .ok (.iload_n 1, 1) := by decide +kernel
theorem dX0_shareByRests_1 : decode cX0_shareByRests 1 = .ok (.iconst 5, 1) := by decide +kernel
theorem dX0_shareByRests_2 : decode cX0_shareByRests 2 = .ok (.if_icmp .ne 7, 3) := by decide +kernel
theorem dX0_shareByRests_5 : decode cX0_shareByRests 5 = .ok (.iload_n 3, 1) := by decide +kernel
theorem dX0_shareByRests_6 : decode cX0_shareByRests 6 = .ok (.goto 10, 3) := by decide +kernel
theorem dX0_shareByRests_9 : decode cX0_shareByRests 9 = .ok (.iload_n 3, 1) := by decide +kernel
theorem dX0_shareByRests_10 : decode cX0_shareByRests 10 = .ok (.iload_n 2, 1) := by decide +kernel
theorem dX0_shareByRests_11 : decode cX0_shareByRests 11 = .ok (.iconst 1, 1) := by decide +kernel
theorem dX0_shareByRests_12 : decode cX0_shareByRests 12 = .ok (.iadd, 1) := by decide +kernel
theorem dX0_shareByRests_13 : decode cX0_shareByRests 13 = .ok (.idiv, 1) := by decide +kernel
theorem dX0_shareByRests_14 : decode cX0_shareByRests 14 = .ok (.iconst 1, 1) := by decide +kernel
theorem dX0_shareByRests_15 : decode cX0_shareByRests 15 = .ok (.iadd, 1) := by decide +kernel
theorem dX0_shareByRests_16 : decode cX0_shareByRests 16 = .ok (.istore 4, 2) := by decide +kernel
theorem dX0_shareByRests_18 : decode cX0_shareByRests 18 = .ok (.iload_n 1, 1) := by decide +kernel
theorem dX0_shareByRests_19 : decode cX0_shareByRests 19 = .ok (.iconst 5, 1) := by decide +kernel
theorem dX0_shareByRests_20 : decode cX0_shareByRests 20 = .ok (.if_icmp .ne 7, 3) := by decide +kernel
theorem dX0_shareByRests_23 : decode cX0_shareByRests 23 = .ok (.iload_n 2, 1) := by decide +kernel
theorem dX0_shareByRests_24 : decode cX0_shareByRests 24 = .ok (.goto 4, 3) := by decide +kernel
theorem dX0_shareByRests_27 : decode cX0_shareByRests 27 = .ok (.iconst 1, 1) := by decide +kernel
theorem dX0_shareByRests_28 : decode cX0_shareByRests 28 = .ok (.istore 5, 2) := by decide +kernel
theorem dX0_shareByRests_30 : decode cX0_shareByRests 30 = .ok (.iload_n 2, 1) := by decide +kernel
theorem dX0_shareByRests_31 : decode cX0_shareByRests 31 = .ok (.istore 6, 2) := by decide +kernel
theorem dX0_shareByRests_33 : decode cX0_shareByRests 33 = .ok (.iconst 0, 1) := by decide +kernel
theorem dX0_shareByRests_34 : decode cX0_shareByRests 34 = .ok (.istore 7, 2) := by decide +kernel
theorem dX0_shareByRests_36 : decode cX0_shareByRests 36 = .ok (.iconst 0, 1) := by decide +kernel
theorem dX0_shareByRests_37 : decode cX0_shareByRests 37 = .ok (.istore 8, 2) := by decide +kernel
theorem dX0_shareByRests_39 : decode cX0_shareByRests 39 = .ok (.iload 8, 2) := by decide +kernel
theorem dX0_shareByRests_41 : decode cX0_shareByRests 41 = .ok (.aload_n 0, 1) := by decide +kernel
theorem dX0_shareByRests_42 : decode cX0_shareByRests 42 = .ok (.getfield 26, 3) := by decide +kernel
theorem dX0_shareByRests_45 : decode cX0_shareByRests 45 = .ok (.if_icmp .ge 94, 3) := by decide +kernel
theorem dX0_shareByRests_48 : decode cX0_shareByRests 48 = .ok (.aload_n 0, 1) := by decide +kernel
theorem dX0_shareByRests_49 : decode cX0_shareByRests 49 = .ok (.getfield 7, 3) := by decide +kernel
theorem dX0_shareByRests_52 : decode cX0_shareByRests 52 = .ok (.iload 8, 2) := by decide +kernel
theorem dX0_shareByRests_54 : decode cX0_shareByRests 54 = .ok (.iaload, 1) := by decide +kernel
theorem dX0_shareByRests_55 : decode cX0_shareByRests 55 = .ok (.iload 5, 2) := by decide +kernel
theorem dX0_shareByRests_57 : decode cX0_shareByRests 57 = .ok (.imul, 1) := by decide +kernel
theorem dX0_shareByRests_58 : decode cX0_shareByRests 58 = .ok (.istore 9, 2) := by decide +kernel
theorem dX0_shareByRests_60 : decode cX0_shareByRests 60 = .ok (.aload_n 0, 1) := by decide +kernel
theorem dX0_shareByRests_61 : decode cX0_shareByRests 61 = .ok (.getfield 13, 3) := by decide +kernel
theorem dX0_shareByRests_64 : decode cX0_shareByRests 64 = .ok (.iload 8, 2) := by decide +kernel
theorem dX0_shareByRests_66 : decode cX0_shareByRests 66 = .ok (.iload 4, 2) := by decide +kernel
theorem dX0_shareByRests_68 : decode cX0_shareByRests 68 = .ok (.ifCond .le 11, 3) := by decide +kernel
theorem dX0_shareByRests_71 : decode cX0_shareByRests 71 = .ok (.iload 9, 2) := by decide +kernel
theorem dX0_shareByRests_73 : decode cX0_shareByRests 73 = .ok (.iload 4, 2) := by decide +kernel
theorem dX0_shareByRests_75 : decode cX0_shareByRests 75 = .ok (.idiv, 1) := by decide +kernel
theorem dX0_shareByRests_76 : decode cX0_shareByRests 76 = .ok (.goto 4, 3) := by decide +kernel
theorem dX0_shareByRests_79 : decode cX0_shareByRests 79 = .ok (.iconst 0, 1) := by decide +kernel
theorem dX0_shareByRests_80 : decode cX0_shareByRests 80 = .ok (.iastore, 1) := by decide +kernel
theorem dX0_shareByRests_81 : decode cX0_shareByRests 81 = .ok (.aload_n 0, 1) := by decide +kernel
theorem dX0_shareByRests_82 : decode cX0_shareByRests 82 = .ok (.getfield 19, 3) := by decide +kernel
theorem dX0_shareByRests_85 : decode cX0_shareByRests 85 = .ok (.iload 8, 2) := by decide +kernel
theorem dX0_shareByRests_87 : decode cX0_shareByRests 87 = .ok (.iload 9, 2) := by decide +kernel
theorem dX0_shareByRests_89 : decode cX0_shareByRests 89 = .ok (.aload_n 0, 1) := by decide +kernel
theorem dX0_shareByRests_90 : decode cX0_shareByRests 90 = .ok (.getfield 13, 3) := by decide +kernel
theorem dX0_shareByRests_93 : decode cX0_shareByRests 93 = .ok (.iload 8, 2) := by decide +kernel
theorem dX0_shareByRests_95 : decode cX0_shareByRests 95 = .ok (.iaload, 1) := by decide +kernel
theorem dX0_shareByRests_96 : decode cX0_shareByRests 96 = .ok (.iload 4, 2) := by decide +kernel
theorem dX0_shareByRests_98 : decode cX0_shareByRests 98 = .ok (.imul, 1) := by decide +kernel
theorem dX0_shareByRests_99 : decode cX0_shareByRests 99 = .ok (.isub, 1) := by decide +kernel
theorem dX0_shareByRests_100 : decode cX0_shareByRests 100 = .ok (.iastore, 1) := by decide +kernel
theorem dX0_shareByRests_101 : decode cX0_shareByRests 101 = .ok (.iload 6, 2) := by decide +kernel
theorem dX0_shareByRests_103 : decode cX0_shareByRests 103 = .ok (.aload_n 0, 1) := by decide +kernel
theorem dX0_shareByRests_104 : decode cX0_shareByRests 104 = .ok (.getfield 13, 3) := by decide +kernel
theorem dX0_shareByRests_107 : decode cX0_shareByRests 107 = .ok (.iload 8, 2) := by decide +kernel
theorem dX0_shareByRests_109 : decode cX0_shareByRests 109 = .ok (.iaload, 1) := by decide +kernel
theorem dX0_shareByRests_110 : decode cX0_shareByRests 110 = .ok (.isub, 1) := by decide +kernel
theorem dX0_shareByRests_111 : decode cX0_shareByRests 111 = .ok (.istore 6, 2) := by decide +kernel
theorem dX0_shareByRests_113 : decode cX0_shareByRests 113 = .ok (.aload_n 0, 1) := by decide +kernel
theorem dX0_shareByRests_114 : decode cX0_shareByRests 114 = .ok (.getfield 7, 3) := by decide +kernel
theorem dX0_shareByRests_117 : decode cX0_shareByRests 117 = .ok (.iload 8, 2) := by decide +kernel
theorem dX0_shareByRests_119 : decode cX0_shareByRests 119 = .ok (.iaload, 1) := by decide +kernel
theorem dX0_shareByRests_120 : decode cX0_shareByRests 120 = .ok (.ifCond .le 13, 3) := by decide +kernel
theorem dX0_shareByRests_123 : decode cX0_shareByRests 123 = .ok (.aload_n 0, 1) := by decide +kernel
theorem dX0_shareByRests_124 : decode cX0_shareByRests 124 = .ok (.iload 8, 2) := by decide +kernel
theorem dX0_shareByRests_126 : decode cX0_shareByRests 126 = .ok (.iload 7, 2) := by decide +kernel
theorem dX0_shareByRests_128 : decode cX0_shareByRests 128 = .ok (.invokevirtual 73, 3) := by decide +kernel
theorem dX0_shareByRests_131 : decode cX0_shareByRests 131 = .ok (.istore 7, 2) := by decide +kernel
theorem dX0_shareByRests_133 : decode cX0_shareByRests 133 = .ok (.iinc 8 1, 3) := by decide +kernel
theorem dX0_shareByRests_136 : decode cX0_shareByRests 136 = .ok (.goto (-97), 3) := by decide +kernel
theorem dX0_shareByRests_139 : decode cX0_shareByRests 139 = .ok (.iconst 0, 1) := by decide +kernel
theorem dX0_shareByRests_140 : decode cX0_shareByRests 140 = .ok (.istore 8, 2) := by decide +kernel
theorem dX0_shareByRests_142 : decode cX0_shareByRests 142 = .ok (.iload 6, 2) := by decide +kernel
theorem dX0_shareByRests_144 : decode cX0_shareByRests 144 = .ok (.ifCond .le 49, 3) := by decide +kernel
theorem dX0_shareByRests_147 : decode cX0_shareByRests 147 = .ok (.iload 7, 2) := by decide +kernel
theorem dX0_shareByRests_149 : decode cX0_shareByRests 149 = .ok (.ifCond .le 44, 3) := by decide +kernel
theorem dX0_shareByRests_152 : decode cX0_shareByRests 152 = .ok (.aload_n 0, 1) := by decide +kernel
theorem dX0_shareByRests_153 : decode cX0_shareByRests 153 = .ok (.getfield 13, 3) := by decide +kernel
theorem dX0_shareByRests_156 : decode cX0_shareByRests 156 = .ok (.aload_n 0, 1) := by decide +kernel
theorem dX0_shareByRests_157 : decode cX0_shareByRests 157 = .ok (.getfield 22, 3) := by decide +kernel
theorem dX0_shareByRests_160 : decode cX0_shareByRests 160 = .ok (.iload 8, 2) := by decide +kernel
theorem dX0_shareByRests_162 : decode cX0_shareByRests 162 = .ok (.baload, 1) := by decide +kernel
theorem dX0_shareByRests_163 : decode cX0_shareByRests 163 = .ok (.dup2, 1) := by decide +kernel
theorem dX0_shareByRests_164 : decode cX0_shareByRests 164 = .ok (.iaload, 1) := by decide +kernel
theorem dX0_shareByRests_165 : decode cX0_shareByRests 165 = .ok (.iconst 1, 1) := by decide +kernel
theorem dX0_shareByRests_166 : decode cX0_shareByRests 166 = .ok (.iadd, 1) := by decide +kernel
theorem dX0_shareByRests_167 : decode cX0_shareByRests 167 = .ok (.iastore, 1) := by decide +kernel
theorem dX0_shareByRests_168 : decode cX0_shareByRests 168 = .ok (.iinc 6 (-1), 3) := by decide +kernel
theorem dX0_shareByRests_171 : decode cX0_shareByRests 171 = .ok (.iload 8, 2) := by decide +kernel
theorem dX0_shareByRests_173 : decode cX0_shareByRests 173 = .ok (.iconst 1, 1) := by decide +kernel
theorem dX0_shareByRests_174 : decode cX0_shareByRests 174 = .ok (.iadd, 1) := by decide +kernel
theorem dX0_shareByRests_175 : decode cX0_shareByRests 175 = .ok (.iload 7, 2) := by decide +kernel
theorem dX0_shareByRests_177 : decode cX0_shareByRests 177 = .ok (.if_icmp .ge 10, 3) := by decide +kernel
theorem dX0_shareByRests_180 : decode cX0_shareByRests 180 = .ok (.iload 8, 2) := by decide +kernel
theorem dX0_shareByRests_182 : decode cX0_shareByRests 182 = .ok (.iconst 1, 1) := by decide +kernel
theorem dX0_shareByRests_183 : decode cX0_shareByRests 183 = .ok (.iadd, 1) := by decide +kernel
theorem dX0_shareByRests_184 : decode cX0_shareByRests 184 = .ok (.goto 4, 3) := by decide +kernel
theorem dX0_shareByRests_187 : decode cX0_shareByRests 187 = .ok (.iconst 0, 1) := by decide +kernel
theorem dX0_shareByRests_188 : decode cX0_shareByRests 188 = .ok (.istore 8, 2) := by decide +kernel
theorem dX0_shareByRests_190 : decode cX0_shareByRests 190 = .ok (.goto (-48), 3) := by decide +kernel
theorem dX0_shareByRests_193 : decode cX0_shareByRests 193 = .ok (.return_, 1) := by decide +kernel
abbrev cX0_putInOrder : ByteArray := prog_1_method_21_code
def yX0_putInOrder : MethodName := ⟨RX0, "putInOrder", "(II)I"⟩
theorem dX0_putInOrder_0 : decode cX0_putInOrder 0 = .ok (.iload_n 2, 1) := by decide +kernel
theorem dX0_putInOrder_1 : decode cX0_putInOrder 1 = .ok (.istore_n 3, 1) := by decide +kernel
theorem dX0_putInOrder_2 : decode cX0_putInOrder 2 = .ok (.iload_n 3, 1) := by decide +kernel
theorem dX0_putInOrder_3 : decode cX0_putInOrder 3 = .ok (.ifCond .le 45, 3) := by decide +kernel
theorem dX0_putInOrder_6 : decode cX0_putInOrder 6 = .ok (.aload_n 0, 1) := by decide +kernel
theorem dX0_putInOrder_7 : decode cX0_putInOrder 7 = .ok (.getfield 19, 3) := by decide +kernel
theorem dX0_putInOrder_10 : decode cX0_putInOrder 10 = .ok (.aload_n 0, 1) := by decide +kernel
theorem dX0_putInOrder_11 : decode cX0_putInOrder 11 = .ok (.getfield 22, 3) := by decide +kernel
theorem dX0_putInOrder_14 : decode cX0_putInOrder 14 = .ok (.iload_n 3, 1) := by decide +kernel
theorem dX0_putInOrder_15 : decode cX0_putInOrder 15 = .ok (.iconst 1, 1) := by decide +kernel
theorem dX0_putInOrder_16 : decode cX0_putInOrder 16 = .ok (.isub, 1) := by decide +kernel
theorem dX0_putInOrder_17 : decode cX0_putInOrder 17 = .ok (.baload, 1) := by decide +kernel
theorem dX0_putInOrder_18 : decode cX0_putInOrder 18 = .ok (.iaload, 1) := by decide +kernel
theorem dX0_putInOrder_19 : decode cX0_putInOrder 19 = .ok (.aload_n 0, 1) := by decide +kernel
theorem dX0_putInOrder_20 : decode cX0_putInOrder 20 = .ok (.getfield 19, 3) := by decide +kernel
theorem dX0_putInOrder_23 : decode cX0_putInOrder 23 = .ok (.iload_n 1, 1) := by decide +kernel
theorem dX0_putInOrder_24 : decode cX0_putInOrder 24 = .ok (.iaload, 1) := by decide +kernel
theorem dX0_putInOrder_25 : decode cX0_putInOrder 25 = .ok (.if_icmp .ge 23, 3) := by decide +kernel
theorem dX0_putInOrder_28 : decode cX0_putInOrder 28 = .ok (.aload_n 0, 1) := by decide +kernel
theorem dX0_putInOrder_29 : decode cX0_putInOrder 29 = .ok (.getfield 22, 3) := by decide +kernel
theorem dX0_putInOrder_32 : decode cX0_putInOrder 32 = .ok (.iload_n 3, 1) := by decide +kernel
theorem dX0_putInOrder_33 : decode cX0_putInOrder 33 = .ok (.aload_n 0, 1) := by decide +kernel
theorem dX0_putInOrder_34 : decode cX0_putInOrder 34 = .ok (.getfield 22, 3) := by decide +kernel
theorem dX0_putInOrder_37 : decode cX0_putInOrder 37 = .ok (.iload_n 3, 1) := by decide +kernel
theorem dX0_putInOrder_38 : decode cX0_putInOrder 38 = .ok (.iconst 1, 1) := by decide +kernel
theorem dX0_putInOrder_39 : decode cX0_putInOrder 39 = .ok (.isub, 1) := by decide +kernel
theorem dX0_putInOrder_40 : decode cX0_putInOrder 40 = .ok (.baload, 1) := by decide +kernel
theorem dX0_putInOrder_41 : decode cX0_putInOrder 41 = .ok (.bastore, 1) := by decide +kernel
theorem dX0_putInOrder_42 : decode cX0_putInOrder 42 = .ok (.iinc 3 (-1), 3) := by decide +kernel
theorem dX0_putInOrder_45 : decode cX0_putInOrder 45 = .ok (.goto (-43), 3) := by decide +kernel
theorem dX0_putInOrder_48 : decode cX0_putInOrder 48 = .ok (.aload_n 0, 1) := by decide +kernel
theorem dX0_putInOrder_49 : decode cX0_putInOrder 49 = .ok (.getfield 22, 3) := by decide +kernel
theorem dX0_putInOrder_52 : decode cX0_putInOrder 52 = .ok (.iload_n 3, 1) := by decide +kernel
theorem dX0_putInOrder_53 : decode cX0_putInOrder 53 = .ok (.iload_n 1, 1) := by decide +kernel
theorem dX0_putInOrder_54 : decode cX0_putInOrder 54 = .ok (.i2b, 1) := by decide +kernel
theorem dX0_putInOrder_55 : decode cX0_putInOrder 55 = .ok (.bastore, 1) := by decide +kernel
theorem dX0_putInOrder_56 : decode cX0_putInOrder 56 = .ok (.iload_n 2, 1) := by decide +kernel
theorem dX0_putInOrder_57 : decode cX0_putInOrder 57 = .ok (.iconst 1, 1) := by decide +kernel
theorem dX0_putInOrder_58 : decode cX0_putInOrder 58 = .ok (.iadd, 1) := by decide +kernel
theorem dX0_putInOrder_59 : decode cX0_putInOrder 59 = .ok (.ireturn, 1) := by decide +kernel
abbrev cX0_next : ByteArray := prog_1_method_24_code
def yX0_next : MethodName := ⟨RX0, "next", "(I)I"⟩
theorem dX0_next_0 : decode cX0_next 0 = .ok (.aload_n 0, 1) := by decide +kernel
theorem dX0_next_1 : decode cX0_next 1 = .ok (.iload_n 1, 1) := by decide +kernel
theorem dX0_next_2 : decode cX0_next 2 = .ok (.invokevirtual 83, 3) := by decide +kernel
theorem dX0_next_5 : decode cX0_next 5 = .ok (.ifCond .ne 8, 3) := by decide +kernel
theorem dX0_next_8 : decode cX0_next 8 = .ok (.iload_n 1, 1) := by decide +kernel
theorem dX0_next_9 : decode cX0_next 9 = .ok (.iconst 5, 1) := by decide +kernel
theorem dX0_next_10 : decode cX0_next 10 = .ok (.if_icmp .lt 5, 3) := by decide +kernel
theorem dX0_next_13 : decode cX0_next 13 = .ok (.iconst (-1), 1) := by decide +kernel
theorem dX0_next_14 : decode cX0_next 14 = .ok (.ireturn, 1) := by decide +kernel
theorem dX0_next_15 : decode cX0_next 15 = .ok (.aload_n 0, 1) := by decide +kernel
theorem dX0_next_16 : decode cX0_next 16 = .ok (.invokevirtual 40, 3) := by decide +kernel
theorem dX0_next_19 : decode cX0_next 19 = .ok (.istore_n 2, 1) := by decide +kernel
theorem dX0_next_20 : decode cX0_next 20 = .ok (.iload_n 2, 1) := by decide +kernel
theorem dX0_next_21 : decode cX0_next 21 = .ok (.ifCond .ne 6, 3) := by decide +kernel
theorem dX0_next_24 : decode cX0_next 24 = .ok (.bipush (-4), 2) := by decide +kernel
theorem dX0_next_26 : decode cX0_next 26 = .ok (.ireturn, 1) := by decide +kernel
theorem dX0_next_27 : decode cX0_next 27 = .ok (.aload_n 0, 1) := by decide +kernel
theorem dX0_next_28 : decode cX0_next 28 = .ok (.iload_n 1, 1) := by decide +kernel
theorem dX0_next_29 : decode cX0_next 29 = .ok (.aload_n 0, 1) := by decide +kernel
theorem dX0_next_30 : decode cX0_next 30 = .ok (.getfield 37, 3) := by decide +kernel
theorem dX0_next_33 : decode cX0_next 33 = .ok (.invokevirtual 86, 3) := by decide +kernel
theorem dX0_next_36 : decode cX0_next 36 = .ok (.aload_n 0, 1) := by decide +kernel
theorem dX0_next_37 : decode cX0_next 37 = .ok (.iload_n 1, 1) := by decide +kernel
theorem dX0_next_38 : decode cX0_next 38 = .ok (.invokevirtual 70, 3) := by decide +kernel
theorem dX0_next_41 : decode cX0_next 41 = .ok (.ireturn, 1) := by decide +kernel
abbrev cX0_missing : ByteArray := prog_1_method_26_code
def yX0_missing : MethodName := ⟨RX0, "missing", "(II)I"⟩
theorem dX0_missing_0 : decode cX0_missing 0 = .ok (.aload_n 0, 1) := by decide +kernel
theorem dX0_missing_1 : decode cX0_missing 1 = .ok (.iload_n 1, 1) := by decide +kernel
theorem dX0_missing_2 : decode cX0_missing 2 = .ok (.invokevirtual 83, 3) := by decide +kernel
theorem dX0_missing_5 : decode cX0_missing 5 = .ok (.ifCond .ne 16, 3) := by decide +kernel
theorem dX0_missing_8 : decode cX0_missing 8 = .ok (.iload_n 1, 1) := by decide +kernel
theorem dX0_missing_9 : decode cX0_missing 9 = .ok (.iconst 5, 1) := by decide +kernel
theorem dX0_missing_10 : decode cX0_missing 10 = .ok (.if_icmp .ge 11, 3) := by decide +kernel
theorem dX0_missing_13 : decode cX0_missing 13 = .ok (.aload_n 0, 1) := by decide +kernel
theorem dX0_missing_14 : decode cX0_missing 14 = .ok (.iload_n 2, 1) := by decide +kernel
theorem dX0_missing_15 : decode cX0_missing 15 = .ok (.invokevirtual 34, 3) := by decide +kernel
theorem dX0_missing_18 : decode cX0_missing 18 = .ok (.ifCond .eq 5, 3) := by decide +kernel
theorem dX0_missing_21 : decode cX0_missing 21 = .ok (.iconst (-1), 1) := by decide +kernel
theorem dX0_missing_22 : decode cX0_missing 22 = .ok (.ireturn, 1) := by decide +kernel
theorem dX0_missing_23 : decode cX0_missing 23 = .ok (.aload_n 0, 1) := by decide +kernel
theorem dX0_missing_24 : decode cX0_missing 24 = .ok (.getfield 7, 3) := by decide +kernel
theorem dX0_missing_27 : decode cX0_missing 27 = .ok (.iload_n 2, 1) := by decide +kernel
theorem dX0_missing_28 : decode cX0_missing 28 = .ok (.iaload, 1) := by decide +kernel
theorem dX0_missing_29 : decode cX0_missing 29 = .ok (.istore_n 3, 1) := by decide +kernel
theorem dX0_missing_30 : decode cX0_missing 30 = .ok (.aload_n 0, 1) := by decide +kernel
theorem dX0_missing_31 : decode cX0_missing 31 = .ok (.iload_n 1, 1) := by decide +kernel
theorem dX0_missing_32 : decode cX0_missing 32 = .ok (.iload_n 2, 1) := by decide +kernel
theorem dX0_missing_33 : decode cX0_missing 33 = .ok (.iload_n 3, 1) := by decide +kernel
theorem dX0_missing_34 : decode cX0_missing 34 = .ok (.invokevirtual 90, 3) := by decide +kernel
theorem dX0_missing_37 : decode cX0_missing 37 = .ok (.istore 4, 2) := by decide +kernel
theorem dX0_missing_39 : decode cX0_missing 39 = .ok (.sipush 2001, 3) := by decide +kernel
theorem dX0_missing_42 : decode cX0_missing 42 = .ok (.istore 5, 2) := by decide +kernel
theorem dX0_missing_44 : decode cX0_missing 44 = .ok (.iconst 0, 1) := by decide +kernel
theorem dX0_missing_45 : decode cX0_missing 45 = .ok (.istore 6, 2) := by decide +kernel
theorem dX0_missing_47 : decode cX0_missing 47 = .ok (.iload 5, 2) := by decide +kernel
theorem dX0_missing_49 : decode cX0_missing 49 = .ok (.iload 6, 2) := by decide +kernel
theorem dX0_missing_51 : decode cX0_missing 51 = .ok (.isub, 1) := by decide +kernel
theorem dX0_missing_52 : decode cX0_missing 52 = .ok (.iconst 1, 1) := by decide +kernel
theorem dX0_missing_53 : decode cX0_missing 53 = .ok (.if_icmp .le 45, 3) := by decide +kernel
theorem dX0_missing_56 : decode cX0_missing 56 = .ok (.iload 6, 2) := by decide +kernel
theorem dX0_missing_58 : decode cX0_missing 58 = .ok (.iload 5, 2) := by decide +kernel
theorem dX0_missing_60 : decode cX0_missing 60 = .ok (.iadd, 1) := by decide +kernel
theorem dX0_missing_61 : decode cX0_missing 61 = .ok (.iconst 2, 1) := by decide +kernel
theorem dX0_missing_62 : decode cX0_missing 62 = .ok (.idiv, 1) := by decide +kernel
theorem dX0_missing_63 : decode cX0_missing 63 = .ok (.istore 7, 2) := by decide +kernel
theorem dX0_missing_65 : decode cX0_missing 65 = .ok (.aload_n 0, 1) := by decide +kernel
theorem dX0_missing_66 : decode cX0_missing 66 = .ok (.iload_n 1, 1) := by decide +kernel
theorem dX0_missing_67 : decode cX0_missing 67 = .ok (.iload_n 2, 1) := by decide +kernel
theorem dX0_missing_68 : decode cX0_missing 68 = .ok (.iload_n 3, 1) := by decide +kernel
theorem dX0_missing_69 : decode cX0_missing 69 = .ok (.iload 7, 2) := by decide +kernel
theorem dX0_missing_71 : decode cX0_missing 71 = .ok (.iadd, 1) := by decide +kernel
theorem dX0_missing_72 : decode cX0_missing 72 = .ok (.invokevirtual 90, 3) := by decide +kernel
theorem dX0_missing_75 : decode cX0_missing 75 = .ok (.istore 8, 2) := by decide +kernel
theorem dX0_missing_77 : decode cX0_missing 77 = .ok (.iload 8, 2) := by decide +kernel
theorem dX0_missing_79 : decode cX0_missing 79 = .ok (.iload 4, 2) := by decide +kernel
theorem dX0_missing_81 : decode cX0_missing 81 = .ok (.if_icmp .le 10, 3) := by decide +kernel
theorem dX0_missing_84 : decode cX0_missing 84 = .ok (.iload 7, 2) := by decide +kernel
theorem dX0_missing_86 : decode cX0_missing 86 = .ok (.istore 5, 2) := by decide +kernel
theorem dX0_missing_88 : decode cX0_missing 88 = .ok (.goto 7, 3) := by decide +kernel
theorem dX0_missing_91 : decode cX0_missing 91 = .ok (.iload 7, 2) := by decide +kernel
theorem dX0_missing_93 : decode cX0_missing 93 = .ok (.istore 6, 2) := by decide +kernel
theorem dX0_missing_95 : decode cX0_missing 95 = .ok (.goto (-48), 3) := by decide +kernel
theorem dX0_missing_98 : decode cX0_missing 98 = .ok (.iload 5, 2) := by decide +kernel
theorem dX0_missing_100 : decode cX0_missing 100 = .ok (.sipush 2000, 3) := by decide +kernel
theorem dX0_missing_103 : decode cX0_missing 103 = .ok (.if_icmp .le 8, 3) := by decide +kernel
theorem dX0_missing_106 : decode cX0_missing 106 = .ok (.bipush (-4), 2) := by decide +kernel
theorem dX0_missing_108 : decode cX0_missing 108 = .ok (.goto 5, 3) := by decide +kernel
theorem dX0_missing_111 : decode cX0_missing 111 = .ok (.iload 5, 2) := by decide +kernel
theorem dX0_missing_113 : decode cX0_missing 113 = .ok (.ireturn, 1) := by decide +kernel
abbrev cX0_shareWith : ByteArray := prog_1_method_25_code
def yX0_shareWith : MethodName := ⟨RX0, "shareWith", "(III)I"⟩
theorem dX0_shareWith_0 : decode cX0_shareWith 0 = .ok (.aload_n 0, 1) := by decide +kernel
theorem dX0_shareWith_1 : decode cX0_shareWith 1 = .ok (.getfield 7, 3) := by decide +kernel
theorem dX0_shareWith_4 : decode cX0_shareWith 4 = .ok (.iload_n 2, 1) := by decide +kernel
theorem dX0_shareWith_5 : decode cX0_shareWith 5 = .ok (.iaload, 1) := by decide +kernel
theorem dX0_shareWith_6 : decode cX0_shareWith 6 = .ok (.istore 4, 2) := by decide +kernel
theorem dX0_shareWith_8 : decode cX0_shareWith 8 = .ok (.aload_n 0, 1) := by decide +kernel
theorem dX0_shareWith_9 : decode cX0_shareWith 9 = .ok (.getfield 7, 3) := by decide +kernel
theorem dX0_shareWith_12 : decode cX0_shareWith 12 = .ok (.iload_n 2, 1) := by decide +kernel
theorem dX0_shareWith_13 : decode cX0_shareWith 13 = .ok (.iload_n 3, 1) := by decide +kernel
theorem dX0_shareWith_14 : decode cX0_shareWith 14 = .ok (.iastore, 1) := by decide +kernel
theorem dX0_shareWith_15 : decode cX0_shareWith 15 = .ok (.aload_n 0, 1) := by decide +kernel
theorem dX0_shareWith_16 : decode cX0_shareWith 16 = .ok (.iload_n 1, 1) := by decide +kernel
theorem dX0_shareWith_17 : decode cX0_shareWith 17 = .ok (.aload_n 0, 1) := by decide +kernel
theorem dX0_shareWith_18 : decode cX0_shareWith 18 = .ok (.getfield 37, 3) := by decide +kernel
theorem dX0_shareWith_21 : decode cX0_shareWith 21 = .ok (.invokevirtual 86, 3) := by decide +kernel
theorem dX0_shareWith_24 : decode cX0_shareWith 24 = .ok (.aload_n 0, 1) := by decide +kernel
theorem dX0_shareWith_25 : decode cX0_shareWith 25 = .ok (.getfield 7, 3) := by decide +kernel
theorem dX0_shareWith_28 : decode cX0_shareWith 28 = .ok (.iload_n 2, 1) := by decide +kernel
theorem dX0_shareWith_29 : decode cX0_shareWith 29 = .ok (.iload 4, 2) := by decide +kernel
theorem dX0_shareWith_31 : decode cX0_shareWith 31 = .ok (.iastore, 1) := by decide +kernel
theorem dX0_shareWith_32 : decode cX0_shareWith 32 = .ok (.aload_n 0, 1) := by decide +kernel
theorem dX0_shareWith_33 : decode cX0_shareWith 33 = .ok (.getfield 13, 3) := by decide +kernel
theorem dX0_shareWith_36 : decode cX0_shareWith 36 = .ok (.iload_n 2, 1) := by decide +kernel
theorem dX0_shareWith_37 : decode cX0_shareWith 37 = .ok (.iaload, 1) := by decide +kernel
theorem dX0_shareWith_38 : decode cX0_shareWith 38 = .ok (.ireturn, 1) := by decide +kernel
abbrev cX0_spare : ByteArray := prog_1_method_27_code
def yX0_spare : MethodName := ⟨RX0, "spare", "(II)I"⟩
theorem dX0_spare_0 : decode cX0_spare 0 = .ok (.aload_n 0, 1) := by decide +kernel
theorem dX0_spare_1 : decode cX0_spare 1 = .ok (.iload_n 1, 1) := by decide +kernel
theorem dX0_spare_2 : decode cX0_spare 2 = .ok (.invokevirtual 83, 3) := by decide +kernel
theorem dX0_spare_5 : decode cX0_spare 5 = .ok (.ifCond .ne 16, 3) := by decide +kernel
theorem dX0_spare_8 : decode cX0_spare 8 = .ok (.iload_n 1, 1) := by decide +kernel
theorem dX0_spare_9 : decode cX0_spare 9 = .ok (.iconst 5, 1) := by decide +kernel
theorem dX0_spare_10 : decode cX0_spare 10 = .ok (.if_icmp .ge 11, 3) := by decide +kernel
theorem dX0_spare_13 : decode cX0_spare 13 = .ok (.aload_n 0, 1) := by decide +kernel
theorem dX0_spare_14 : decode cX0_spare 14 = .ok (.iload_n 2, 1) := by decide +kernel
theorem dX0_spare_15 : decode cX0_spare 15 = .ok (.invokevirtual 34, 3) := by decide +kernel
theorem dX0_spare_18 : decode cX0_spare 18 = .ok (.ifCond .eq 5, 3) := by decide +kernel
theorem dX0_spare_21 : decode cX0_spare 21 = .ok (.iconst (-1), 1) := by decide +kernel
theorem dX0_spare_22 : decode cX0_spare 22 = .ok (.ireturn, 1) := by decide +kernel
theorem dX0_spare_23 : decode cX0_spare 23 = .ok (.aload_n 0, 1) := by decide +kernel
theorem dX0_spare_24 : decode cX0_spare 24 = .ok (.getfield 7, 3) := by decide +kernel
theorem dX0_spare_27 : decode cX0_spare 27 = .ok (.iload_n 2, 1) := by decide +kernel
theorem dX0_spare_28 : decode cX0_spare 28 = .ok (.iaload, 1) := by decide +kernel
theorem dX0_spare_29 : decode cX0_spare 29 = .ok (.istore_n 3, 1) := by decide +kernel
theorem dX0_spare_30 : decode cX0_spare 30 = .ok (.aload_n 0, 1) := by decide +kernel
theorem dX0_spare_31 : decode cX0_spare 31 = .ok (.iload_n 1, 1) := by decide +kernel
theorem dX0_spare_32 : decode cX0_spare 32 = .ok (.iload_n 2, 1) := by decide +kernel
theorem dX0_spare_33 : decode cX0_spare 33 = .ok (.iload_n 3, 1) := by decide +kernel
theorem dX0_spare_34 : decode cX0_spare 34 = .ok (.invokevirtual 90, 3) := by decide +kernel
theorem dX0_spare_37 : decode cX0_spare 37 = .ok (.istore 4, 2) := by decide +kernel
theorem dX0_spare_39 : decode cX0_spare 39 = .ok (.iconst 0, 1) := by decide +kernel
theorem dX0_spare_40 : decode cX0_spare 40 = .ok (.istore 5, 2) := by decide +kernel
theorem dX0_spare_42 : decode cX0_spare 42 = .ok (.iload_n 3, 1) := by decide +kernel
theorem dX0_spare_43 : decode cX0_spare 43 = .ok (.iconst 1, 1) := by decide +kernel
theorem dX0_spare_44 : decode cX0_spare 44 = .ok (.iadd, 1) := by decide +kernel
theorem dX0_spare_45 : decode cX0_spare 45 = .ok (.istore 6, 2) := by decide +kernel
theorem dX0_spare_47 : decode cX0_spare 47 = .ok (.iload 6, 2) := by decide +kernel
theorem dX0_spare_49 : decode cX0_spare 49 = .ok (.iload 5, 2) := by decide +kernel
theorem dX0_spare_51 : decode cX0_spare 51 = .ok (.isub, 1) := by decide +kernel
theorem dX0_spare_52 : decode cX0_spare 52 = .ok (.iconst 1, 1) := by decide +kernel
theorem dX0_spare_53 : decode cX0_spare 53 = .ok (.if_icmp .le 45, 3) := by decide +kernel
theorem dX0_spare_56 : decode cX0_spare 56 = .ok (.iload 5, 2) := by decide +kernel
theorem dX0_spare_58 : decode cX0_spare 58 = .ok (.iload 6, 2) := by decide +kernel
theorem dX0_spare_60 : decode cX0_spare 60 = .ok (.iadd, 1) := by decide +kernel
theorem dX0_spare_61 : decode cX0_spare 61 = .ok (.iconst 2, 1) := by decide +kernel
theorem dX0_spare_62 : decode cX0_spare 62 = .ok (.idiv, 1) := by decide +kernel
theorem dX0_spare_63 : decode cX0_spare 63 = .ok (.istore 7, 2) := by decide +kernel
theorem dX0_spare_65 : decode cX0_spare 65 = .ok (.aload_n 0, 1) := by decide +kernel
theorem dX0_spare_66 : decode cX0_spare 66 = .ok (.iload_n 1, 1) := by decide +kernel
theorem dX0_spare_67 : decode cX0_spare 67 = .ok (.iload_n 2, 1) := by decide +kernel
theorem dX0_spare_68 : decode cX0_spare 68 = .ok (.iload_n 3, 1) := by decide +kernel
theorem dX0_spare_69 : decode cX0_spare 69 = .ok (.iload 7, 2) := by decide +kernel
theorem dX0_spare_71 : decode cX0_spare 71 = .ok (.isub, 1) := by decide +kernel
theorem dX0_spare_72 : decode cX0_spare 72 = .ok (.invokevirtual 90, 3) := by decide +kernel
theorem dX0_spare_75 : decode cX0_spare 75 = .ok (.istore 8, 2) := by decide +kernel
theorem dX0_spare_77 : decode cX0_spare 77 = .ok (.iload 8, 2) := by decide +kernel
theorem dX0_spare_79 : decode cX0_spare 79 = .ok (.iload 4, 2) := by decide +kernel
theorem dX0_spare_81 : decode cX0_spare 81 = .ok (.if_icmp .ne 10, 3) := by decide +kernel
theorem dX0_spare_84 : decode cX0_spare 84 = .ok (.iload 7, 2) := by decide +kernel
theorem dX0_spare_86 : decode cX0_spare 86 = .ok (.istore 5, 2) := by decide +kernel
theorem dX0_spare_88 : decode cX0_spare 88 = .ok (.goto 7, 3) := by decide +kernel
theorem dX0_spare_91 : decode cX0_spare 91 = .ok (.iload 7, 2) := by decide +kernel
theorem dX0_spare_93 : decode cX0_spare 93 = .ok (.istore 6, 2) := by decide +kernel
theorem dX0_spare_95 : decode cX0_spare 95 = .ok (.goto (-48), 3) := by decide +kernel
theorem dX0_spare_98 : decode cX0_spare 98 = .ok (.iload 5, 2) := by decide +kernel
theorem dX0_spare_100 : decode cX0_spare 100 = .ok (.ireturn, 1) := by decide +kernel
abbrev cX0_fall : ByteArray := prog_1_method_29_code
def yX0_fall : MethodName := ⟨RX0, "fall", "(I)I"⟩
theorem dX0_fall_0 : decode cX0_fall 0 = .ok (.aload_n 0, 1) := by decide +kernel
theorem dX0_fall_1 : decode cX0_fall 1 = .ok (.iload_n 1, 1) := by decide +kernel
theorem dX0_fall_2 : decode cX0_fall 2 = .ok (.invokevirtual 83, 3) := by decide +kernel
theorem dX0_fall_5 : decode cX0_fall 5 = .ok (.ifCond .eq 5, 3) := by decide +kernel
theorem dX0_fall_8 : decode cX0_fall 8 = .ok (.iconst (-1), 1) := by decide +kernel
theorem dX0_fall_9 : decode cX0_fall 9 = .ok (.ireturn, 1) := by decide +kernel
theorem dX0_fall_10 : decode cX0_fall 10 = .ok (.iload_n 1, 1) := by decide +kernel
theorem dX0_fall_11 : decode cX0_fall 11 = .ok (.iconst 5, 1) := by decide +kernel
theorem dX0_fall_12 : decode cX0_fall 12 = .ok (.if_icmp .ge 6, 3) := by decide +kernel
theorem dX0_fall_15 : decode cX0_fall 15 = .ok (.bipush (-4), 2) := by decide +kernel
theorem dX0_fall_17 : decode cX0_fall 17 = .ok (.ireturn, 1) := by decide +kernel
theorem dX0_fall_18 : decode cX0_fall 18 = .ok (.aload_n 0, 1) := by decide +kernel
theorem dX0_fall_19 : decode cX0_fall 19 = .ok (.getfield 37, 3) := by decide +kernel
theorem dX0_fall_22 : decode cX0_fall 22 = .ok (.istore_n 2, 1) := by decide +kernel
theorem dX0_fall_23 : decode cX0_fall 23 = .ok (.iload_n 2, 1) := by decide +kernel
theorem dX0_fall_24 : decode cX0_fall 24 = .ok (.bipush 30, 2) := by decide +kernel
theorem dX0_fall_26 : decode cX0_fall 26 = .ok (.if_icmp .ge 80, 3) := by decide +kernel
theorem dX0_fall_29 : decode cX0_fall 29 = .ok (.aload_n 0, 1) := by decide +kernel
theorem dX0_fall_30 : decode cX0_fall 30 = .ok (.iload_n 1, 1) := by decide +kernel
theorem dX0_fall_31 : decode cX0_fall 31 = .ok (.iload_n 2, 1) := by decide +kernel
theorem dX0_fall_32 : decode cX0_fall 32 = .ok (.invokevirtual 86, 3) := by decide +kernel
theorem dX0_fall_35 : decode cX0_fall 35 = .ok (.aload_n 0, 1) := by decide +kernel
theorem dX0_fall_36 : decode cX0_fall 36 = .ok (.invokevirtual 94, 3) := by decide +kernel
theorem dX0_fall_39 : decode cX0_fall 39 = .ok (.aload_n 0, 1) := by decide +kernel
theorem dX0_fall_40 : decode cX0_fall 40 = .ok (.iload_n 1, 1) := by decide +kernel
theorem dX0_fall_41 : decode cX0_fall 41 = .ok (.iload_n 2, 1) := by decide +kernel
theorem dX0_fall_42 : decode cX0_fall 42 = .ok (.iconst 1, 1) := by decide +kernel
theorem dX0_fall_43 : decode cX0_fall 43 = .ok (.iadd, 1) := by decide +kernel
theorem dX0_fall_44 : decode cX0_fall 44 = .ok (.invokevirtual 86, 3) := by decide +kernel
theorem dX0_fall_47 : decode cX0_fall 47 = .ok (.iconst 0, 1) := by decide +kernel
theorem dX0_fall_48 : decode cX0_fall 48 = .ok (.istore_n 3, 1) := by decide +kernel
theorem dX0_fall_49 : decode cX0_fall 49 = .ok (.iconst 0, 1) := by decide +kernel
theorem dX0_fall_50 : decode cX0_fall 50 = .ok (.istore 4, 2) := by decide +kernel
theorem dX0_fall_52 : decode cX0_fall 52 = .ok (.iload 4, 2) := by decide +kernel
theorem dX0_fall_54 : decode cX0_fall 54 = .ok (.aload_n 0, 1) := by decide +kernel
theorem dX0_fall_55 : decode cX0_fall 55 = .ok (.getfield 26, 3) := by decide +kernel
theorem dX0_fall_58 : decode cX0_fall 58 = .ok (.if_icmp .ge 36, 3) := by decide +kernel
theorem dX0_fall_61 : decode cX0_fall 61 = .ok (.iload_n 3, 1) := by decide +kernel
theorem dX0_fall_62 : decode cX0_fall 62 = .ok (.ifCond .ne 20, 3) := by decide +kernel
theorem dX0_fall_65 : decode cX0_fall 65 = .ok (.aload_n 0, 1) := by decide +kernel
theorem dX0_fall_66 : decode cX0_fall 66 = .ok (.getfield 13, 3) := by decide +kernel
theorem dX0_fall_69 : decode cX0_fall 69 = .ok (.iload 4, 2) := by decide +kernel
theorem dX0_fall_71 : decode cX0_fall 71 = .ok (.iaload, 1) := by decide +kernel
theorem dX0_fall_72 : decode cX0_fall 72 = .ok (.aload_n 0, 1) := by decide +kernel
theorem dX0_fall_73 : decode cX0_fall 73 = .ok (.getfield 16, 3) := by decide +kernel
theorem dX0_fall_76 : decode cX0_fall 76 = .ok (.iload 4, 2) := by decide +kernel
end
section
set_option maxRecDepth 100000
theorem dX0_fall_78 : decode cX0_fall 78 = .ok (.iaload, 1) := by decide +kernel
theorem dX0_fall_79 : decode cX0_fall 79 = .ok (.if_icmp .ge 7, 3) := by decide +kernel
theorem dX0_fall_82 : decode cX0_fall 82 = .ok (.iconst 1, 1) := by decide +kernel
theorem dX0_fall_83 : decode cX0_fall 83 = .ok (.goto 4, 3) := by decide +kernel
theorem dX0_fall_86 : decode cX0_fall 86 = .ok (.iconst 0, 1) := by decide +kernel
theorem dX0_fall_87 : decode cX0_fall 87 = .ok (.istore_n 3, 1) := by decide +kernel
theorem dX0_fall_88 : decode cX0_fall 88 = .ok (.iinc 4 1, 3) := by decide +kernel
theorem dX0_fall_91 : decode cX0_fall 91 = .ok (.goto (-39), 3) := by decide +kernel
theorem dX0_fall_94 : decode cX0_fall 94 = .ok (.iload_n 3, 1) := by decide +kernel
theorem dX0_fall_95 : decode cX0_fall 95 = .ok (.ifCond .eq 5, 3) := by decide +kernel
theorem dX0_fall_98 : decode cX0_fall 98 = .ok (.iload_n 2, 1) := by decide +kernel
theorem dX0_fall_99 : decode cX0_fall 99 = .ok (.ireturn, 1) := by decide +kernel
theorem dX0_fall_100 : decode cX0_fall 100 = .ok (.iinc 2 1, 3) := by decide +kernel
theorem dX0_fall_103 : decode cX0_fall 103 = .ok (.goto (-80), 3) := by decide +kernel
theorem dX0_fall_106 : decode cX0_fall 106 = .ok (.bipush (-4), 2) := by decide +kernel
theorem dX0_fall_108 : decode cX0_fall 108 = .ok (.ireturn, 1) := by decide +kernel
abbrev cX0_keepShares : ByteArray := prog_1_method_28_code
def yX0_keepShares : MethodName := ⟨RX0, "keepShares", "()V"⟩
theorem dX0_keepShares_0 : decode cX0_keepShares 0 = .ok (.iconst 0, 1) := by decide +kernel
theorem dX0_keepShares_1 : decode cX0_keepShares 1 = .ok (.istore_n 1, 1) := by decide +kernel
theorem dX0_keepShares_2 : decode cX0_keepShares 2 = .ok (.iload_n 1, 1) := by decide +kernel
theorem dX0_keepShares_3 : decode cX0_keepShares 3 = .ok (.aload_n 0, 1) := by decide +kernel
theorem dX0_keepShares_4 : decode cX0_keepShares 4 = .ok (.getfield 26, 3) := by decide +kernel
theorem dX0_keepShares_7 : decode cX0_keepShares 7 = .ok (.if_icmp .ge 21, 3) := by decide +kernel
theorem dX0_keepShares_10 : decode cX0_keepShares 10 = .ok (.aload_n 0, 1) := by decide +kernel
theorem dX0_keepShares_11 : decode cX0_keepShares 11 = .ok (.getfield 16, 3) := by decide +kernel
theorem dX0_keepShares_14 : decode cX0_keepShares 14 = .ok (.iload_n 1, 1) := by decide +kernel
theorem dX0_keepShares_15 : decode cX0_keepShares 15 = .ok (.aload_n 0, 1) := by decide +kernel
theorem dX0_keepShares_16 : decode cX0_keepShares 16 = .ok (.getfield 13, 3) := by decide +kernel
theorem dX0_keepShares_19 : decode cX0_keepShares 19 = .ok (.iload_n 1, 1) := by decide +kernel
theorem dX0_keepShares_20 : decode cX0_keepShares 20 = .ok (.iaload, 1) := by decide +kernel
theorem dX0_keepShares_21 : decode cX0_keepShares 21 = .ok (.iastore, 1) := by decide +kernel
theorem dX0_keepShares_22 : decode cX0_keepShares 22 = .ok (.iinc 1 1, 3) := by decide +kernel
theorem dX0_keepShares_25 : decode cX0_keepShares 25 = .ok (.goto (-23), 3) := by decide +kernel
theorem dX0_keepShares_28 : decode cX0_keepShares 28 = .ok (.return_, 1) := by decide +kernel
abbrev cX0_outside : ByteArray := prog_1_method_30_code
def yX0_outside : MethodName := ⟨RX0, "outside", "(I)I"⟩
theorem dX0_outside_0 : decode cX0_outside 0 = .ok (.aload_n 0, 1) := by decide +kernel
theorem dX0_outside_1 : decode cX0_outside 1 = .ok (.iload_n 1, 1) := by decide +kernel
theorem dX0_outside_2 : decode cX0_outside 2 = .ok (.invokevirtual 83, 3) := by decide +kernel
theorem dX0_outside_5 : decode cX0_outside 5 = .ok (.ifCond .eq 5, 3) := by decide +kernel
theorem dX0_outside_8 : decode cX0_outside 8 = .ok (.iconst (-1), 1) := by decide +kernel
theorem dX0_outside_9 : decode cX0_outside 9 = .ok (.ireturn, 1) := by decide +kernel
theorem dX0_outside_10 : decode cX0_outside 10 = .ok (.aload_n 0, 1) := by decide +kernel
theorem dX0_outside_11 : decode cX0_outside 11 = .ok (.iload_n 1, 1) := by decide +kernel
theorem dX0_outside_12 : decode cX0_outside 12 = .ok (.aload_n 0, 1) := by decide +kernel
theorem dX0_outside_13 : decode cX0_outside 13 = .ok (.getfield 37, 3) := by decide +kernel
theorem dX0_outside_16 : decode cX0_outside 16 = .ok (.invokevirtual 86, 3) := by decide +kernel
theorem dX0_outside_19 : decode cX0_outside 19 = .ok (.aload_n 0, 1) := by decide +kernel
theorem dX0_outside_20 : decode cX0_outside 20 = .ok (.invokevirtual 40, 3) := by decide +kernel
theorem dX0_outside_23 : decode cX0_outside 23 = .ok (.istore_n 2, 1) := by decide +kernel
theorem dX0_outside_24 : decode cX0_outside 24 = .ok (.iconst 0, 1) := by decide +kernel
theorem dX0_outside_25 : decode cX0_outside 25 = .ok (.istore_n 3, 1) := by decide +kernel
theorem dX0_outside_26 : decode cX0_outside 26 = .ok (.iconst 0, 1) := by decide +kernel
theorem dX0_outside_27 : decode cX0_outside 27 = .ok (.istore 4, 2) := by decide +kernel
theorem dX0_outside_29 : decode cX0_outside 29 = .ok (.iload 4, 2) := by decide +kernel
theorem dX0_outside_31 : decode cX0_outside 31 = .ok (.aload_n 0, 1) := by decide +kernel
theorem dX0_outside_32 : decode cX0_outside 32 = .ok (.getfield 26, 3) := by decide +kernel
theorem dX0_outside_35 : decode cX0_outside 35 = .ok (.if_icmp .ge 79, 3) := by decide +kernel
theorem dX0_outside_38 : decode cX0_outside 38 = .ok (.aload_n 0, 1) := by decide +kernel
theorem dX0_outside_39 : decode cX0_outside 39 = .ok (.getfield 37, 3) := by decide +kernel
theorem dX0_outside_42 : decode cX0_outside 42 = .ok (.aload_n 0, 1) := by decide +kernel
theorem dX0_outside_43 : decode cX0_outside 43 = .ok (.getfield 7, 3) := by decide +kernel
theorem dX0_outside_46 : decode cX0_outside 46 = .ok (.iload 4, 2) := by decide +kernel
theorem dX0_outside_48 : decode cX0_outside 48 = .ok (.iaload, 1) := by decide +kernel
theorem dX0_outside_49 : decode cX0_outside 49 = .ok (.imul, 1) := by decide +kernel
theorem dX0_outside_50 : decode cX0_outside 50 = .ok (.istore 5, 2) := by decide +kernel
theorem dX0_outside_52 : decode cX0_outside 52 = .ok (.aload_n 0, 1) := by decide +kernel
theorem dX0_outside_53 : decode cX0_outside 53 = .ok (.getfield 13, 3) := by decide +kernel
theorem dX0_outside_56 : decode cX0_outside 56 = .ok (.iload 4, 2) := by decide +kernel
theorem dX0_outside_58 : decode cX0_outside 58 = .ok (.iaload, 1) := by decide +kernel
theorem dX0_outside_59 : decode cX0_outside 59 = .ok (.iload_n 2, 1) := by decide +kernel
theorem dX0_outside_60 : decode cX0_outside 60 = .ok (.imul, 1) := by decide +kernel
theorem dX0_outside_61 : decode cX0_outside 61 = .ok (.iload 5, 2) := by decide +kernel
theorem dX0_outside_63 : decode cX0_outside 63 = .ok (.iload_n 2, 1) := by decide +kernel
theorem dX0_outside_64 : decode cX0_outside 64 = .ok (.isub, 1) := by decide +kernel
theorem dX0_outside_65 : decode cX0_outside 65 = .ok (.if_icmp .le 19, 3) := by decide +kernel
theorem dX0_outside_68 : decode cX0_outside 68 = .ok (.aload_n 0, 1) := by decide +kernel
theorem dX0_outside_69 : decode cX0_outside 69 = .ok (.getfield 13, 3) := by decide +kernel
theorem dX0_outside_72 : decode cX0_outside 72 = .ok (.iload 4, 2) := by decide +kernel
theorem dX0_outside_74 : decode cX0_outside 74 = .ok (.iaload, 1) := by decide +kernel
theorem dX0_outside_75 : decode cX0_outside 75 = .ok (.iload_n 2, 1) := by decide +kernel
theorem dX0_outside_76 : decode cX0_outside 76 = .ok (.imul, 1) := by decide +kernel
theorem dX0_outside_77 : decode cX0_outside 77 = .ok (.iload 5, 2) := by decide +kernel
theorem dX0_outside_79 : decode cX0_outside 79 = .ok (.iload_n 2, 1) := by decide +kernel
theorem dX0_outside_80 : decode cX0_outside 80 = .ok (.iadd, 1) := by decide +kernel
theorem dX0_outside_81 : decode cX0_outside 81 = .ok (.if_icmp .lt 7, 3) := by decide +kernel
theorem dX0_outside_84 : decode cX0_outside 84 = .ok (.iconst 1, 1) := by decide +kernel
theorem dX0_outside_85 : decode cX0_outside 85 = .ok (.goto 4, 3) := by decide +kernel
theorem dX0_outside_88 : decode cX0_outside 88 = .ok (.iconst 0, 1) := by decide +kernel
theorem dX0_outside_89 : decode cX0_outside 89 = .ok (.istore 6, 2) := by decide +kernel
theorem dX0_outside_91 : decode cX0_outside 91 = .ok (.iload_n 2, 1) := by decide +kernel
theorem dX0_outside_92 : decode cX0_outside 92 = .ok (.ifCond .le 14, 3) := by decide +kernel
theorem dX0_outside_95 : decode cX0_outside 95 = .ok (.iload 6, 2) := by decide +kernel
theorem dX0_outside_97 : decode cX0_outside 97 = .ok (.ifCond .eq 9, 3) := by decide +kernel
theorem dX0_outside_100 : decode cX0_outside 100 = .ok (.iload_n 3, 1) := by decide +kernel
theorem dX0_outside_101 : decode cX0_outside 101 = .ok (.iconst 1, 1) := by decide +kernel
theorem dX0_outside_102 : decode cX0_outside 102 = .ok (.iadd, 1) := by decide +kernel
theorem dX0_outside_103 : decode cX0_outside 103 = .ok (.goto 4, 3) := by decide +kernel
theorem dX0_outside_106 : decode cX0_outside 106 = .ok (.iload_n 3, 1) := by decide +kernel
theorem dX0_outside_107 : decode cX0_outside 107 = .ok (.istore_n 3, 1) := by decide +kernel
theorem dX0_outside_108 : decode cX0_outside 108 = .ok (.iinc 4 1, 3) := by decide +kernel
theorem dX0_outside_111 : decode cX0_outside 111 = .ok (.goto (-82), 3) := by decide +kernel
theorem dX0_outside_114 : decode cX0_outside 114 = .ok (.iload_n 3, 1) := by decide +kernel
theorem dX0_outside_115 : decode cX0_outside 115 = .ok (.ireturn, 1) := by decide +kernel
abbrev cX0_moved : ByteArray := prog_1_method_31_code
def yX0_moved : MethodName := ⟨RX0, "moved", "(II)I"⟩
theorem dX0_moved_0 : decode cX0_moved 0 = .ok (.aload_n 0, 1) := by decide +kernel
theorem dX0_moved_1 : decode cX0_moved 1 = .ok (.iload_n 1, 1) := by decide +kernel
theorem dX0_moved_2 : decode cX0_moved 2 = .ok (.invokevirtual 83, 3) := by decide +kernel
theorem dX0_moved_5 : decode cX0_moved 5 = .ok (.ifCond .ne 11, 3) := by decide +kernel
theorem dX0_moved_8 : decode cX0_moved 8 = .ok (.aload_n 0, 1) := by decide +kernel
theorem dX0_moved_9 : decode cX0_moved 9 = .ok (.iload_n 2, 1) := by decide +kernel
theorem dX0_moved_10 : decode cX0_moved 10 = .ok (.invokevirtual 83, 3) := by decide +kernel
theorem dX0_moved_13 : decode cX0_moved 13 = .ok (.ifCond .eq 5, 3) := by decide +kernel
theorem dX0_moved_16 : decode cX0_moved 16 = .ok (.iconst (-1), 1) := by decide +kernel
theorem dX0_moved_17 : decode cX0_moved 17 = .ok (.ireturn, 1) := by decide +kernel
theorem dX0_moved_18 : decode cX0_moved 18 = .ok (.aload_n 0, 1) := by decide +kernel
theorem dX0_moved_19 : decode cX0_moved 19 = .ok (.iload_n 1, 1) := by decide +kernel
theorem dX0_moved_20 : decode cX0_moved 20 = .ok (.aload_n 0, 1) := by decide +kernel
theorem dX0_moved_21 : decode cX0_moved 21 = .ok (.getfield 37, 3) := by decide +kernel
theorem dX0_moved_24 : decode cX0_moved 24 = .ok (.invokevirtual 86, 3) := by decide +kernel
theorem dX0_moved_27 : decode cX0_moved 27 = .ok (.aload_n 0, 1) := by decide +kernel
theorem dX0_moved_28 : decode cX0_moved 28 = .ok (.invokevirtual 94, 3) := by decide +kernel
theorem dX0_moved_31 : decode cX0_moved 31 = .ok (.aload_n 0, 1) := by decide +kernel
theorem dX0_moved_32 : decode cX0_moved 32 = .ok (.iload_n 2, 1) := by decide +kernel
theorem dX0_moved_33 : decode cX0_moved 33 = .ok (.aload_n 0, 1) := by decide +kernel
theorem dX0_moved_34 : decode cX0_moved 34 = .ok (.getfield 37, 3) := by decide +kernel
theorem dX0_moved_37 : decode cX0_moved 37 = .ok (.invokevirtual 86, 3) := by decide +kernel
theorem dX0_moved_40 : decode cX0_moved 40 = .ok (.iconst 0, 1) := by decide +kernel
theorem dX0_moved_41 : decode cX0_moved 41 = .ok (.istore_n 3, 1) := by decide +kernel
theorem dX0_moved_42 : decode cX0_moved 42 = .ok (.iconst 0, 1) := by decide +kernel
theorem dX0_moved_43 : decode cX0_moved 43 = .ok (.istore 4, 2) := by decide +kernel
theorem dX0_moved_45 : decode cX0_moved 45 = .ok (.iload 4, 2) := by decide +kernel
theorem dX0_moved_47 : decode cX0_moved 47 = .ok (.aload_n 0, 1) := by decide +kernel
theorem dX0_moved_48 : decode cX0_moved 48 = .ok (.getfield 26, 3) := by decide +kernel
theorem dX0_moved_51 : decode cX0_moved 51 = .ok (.if_icmp .ge 48, 3) := by decide +kernel
theorem dX0_moved_54 : decode cX0_moved 54 = .ok (.aload_n 0, 1) := by decide +kernel
theorem dX0_moved_55 : decode cX0_moved 55 = .ok (.getfield 13, 3) := by decide +kernel
theorem dX0_moved_58 : decode cX0_moved 58 = .ok (.iload 4, 2) := by decide +kernel
theorem dX0_moved_60 : decode cX0_moved 60 = .ok (.iaload, 1) := by decide +kernel
theorem dX0_moved_61 : decode cX0_moved 61 = .ok (.aload_n 0, 1) := by decide +kernel
theorem dX0_moved_62 : decode cX0_moved 62 = .ok (.getfield 16, 3) := by decide +kernel
theorem dX0_moved_65 : decode cX0_moved 65 = .ok (.iload 4, 2) := by decide +kernel
theorem dX0_moved_67 : decode cX0_moved 67 = .ok (.iaload, 1) := by decide +kernel
theorem dX0_moved_68 : decode cX0_moved 68 = .ok (.if_icmp .le 23, 3) := by decide +kernel
theorem dX0_moved_71 : decode cX0_moved 71 = .ok (.iload_n 3, 1) := by decide +kernel
theorem dX0_moved_72 : decode cX0_moved 72 = .ok (.aload_n 0, 1) := by decide +kernel
theorem dX0_moved_73 : decode cX0_moved 73 = .ok (.getfield 13, 3) := by decide +kernel
theorem dX0_moved_76 : decode cX0_moved 76 = .ok (.iload 4, 2) := by decide +kernel
theorem dX0_moved_78 : decode cX0_moved 78 = .ok (.iaload, 1) := by decide +kernel
theorem dX0_moved_79 : decode cX0_moved 79 = .ok (.iadd, 1) := by decide +kernel
theorem dX0_moved_80 : decode cX0_moved 80 = .ok (.aload_n 0, 1) := by decide +kernel
theorem dX0_moved_81 : decode cX0_moved 81 = .ok (.getfield 16, 3) := by decide +kernel
theorem dX0_moved_84 : decode cX0_moved 84 = .ok (.iload 4, 2) := by decide +kernel
theorem dX0_moved_86 : decode cX0_moved 86 = .ok (.iaload, 1) := by decide +kernel
theorem dX0_moved_87 : decode cX0_moved 87 = .ok (.isub, 1) := by decide +kernel
theorem dX0_moved_88 : decode cX0_moved 88 = .ok (.goto 4, 3) := by decide +kernel
theorem dX0_moved_91 : decode cX0_moved 91 = .ok (.iload_n 3, 1) := by decide +kernel
theorem dX0_moved_92 : decode cX0_moved 92 = .ok (.istore_n 3, 1) := by decide +kernel
theorem dX0_moved_93 : decode cX0_moved 93 = .ok (.iinc 4 1, 3) := by decide +kernel
theorem dX0_moved_96 : decode cX0_moved 96 = .ok (.goto (-51), 3) := by decide +kernel
theorem dX0_moved_99 : decode cX0_moved 99 = .ok (.iload_n 3, 1) := by decide +kernel
theorem dX0_moved_100 : decode cX0_moved 100 = .ok (.ireturn, 1) := by decide +kernel
abbrev cX0_majority : ByteArray := prog_1_method_32_code
def yX0_majority : MethodName := ⟨RX0, "majority", "(I)I"⟩
theorem dX0_majority_0 : decode cX0_majority 0 = .ok (.aload_n 0, 1) := by decide +kernel
theorem dX0_majority_1 : decode cX0_majority 1 = .ok (.iload_n 1, 1) := by decide +kernel
theorem dX0_majority_2 : decode cX0_majority 2 = .ok (.invokevirtual 83, 3) := by decide +kernel
theorem dX0_majority_5 : decode cX0_majority 5 = .ok (.ifCond .eq 5, 3) := by decide +kernel
theorem dX0_majority_8 : decode cX0_majority 8 = .ok (.iconst (-1), 1) := by decide +kernel
theorem dX0_majority_9 : decode cX0_majority 9 = .ok (.ireturn, 1) := by decide +kernel
theorem dX0_majority_10 : decode cX0_majority 10 = .ok (.aload_n 0, 1) := by decide +kernel
theorem dX0_majority_11 : decode cX0_majority 11 = .ok (.iload_n 1, 1) := by decide +kernel
theorem dX0_majority_12 : decode cX0_majority 12 = .ok (.aload_n 0, 1) := by decide +kernel
theorem dX0_majority_13 : decode cX0_majority 13 = .ok (.getfield 37, 3) := by decide +kernel
theorem dX0_majority_16 : decode cX0_majority 16 = .ok (.invokevirtual 86, 3) := by decide +kernel
theorem dX0_majority_19 : decode cX0_majority 19 = .ok (.iconst 0, 1) := by decide +kernel
theorem dX0_majority_20 : decode cX0_majority 20 = .ok (.istore_n 2, 1) := by decide +kernel
theorem dX0_majority_21 : decode cX0_majority 21 = .ok (.iconst 0, 1) := by decide +kernel
theorem dX0_majority_22 : decode cX0_majority 22 = .ok (.istore_n 3, 1) := by decide +kernel
theorem dX0_majority_23 : decode cX0_majority 23 = .ok (.iload_n 3, 1) := by decide +kernel
theorem dX0_majority_24 : decode cX0_majority 24 = .ok (.aload_n 0, 1) := by decide +kernel
theorem dX0_majority_25 : decode cX0_majority 25 = .ok (.getfield 26, 3) := by decide +kernel
theorem dX0_majority_28 : decode cX0_majority 28 = .ok (.if_icmp .ge 18, 3) := by decide +kernel
theorem dX0_majority_31 : decode cX0_majority 31 = .ok (.iload_n 2, 1) := by decide +kernel
theorem dX0_majority_32 : decode cX0_majority 32 = .ok (.aload_n 0, 1) := by decide +kernel
theorem dX0_majority_33 : decode cX0_majority 33 = .ok (.getfield 13, 3) := by decide +kernel
theorem dX0_majority_36 : decode cX0_majority 36 = .ok (.iload_n 3, 1) := by decide +kernel
theorem dX0_majority_37 : decode cX0_majority 37 = .ok (.iaload, 1) := by decide +kernel
theorem dX0_majority_38 : decode cX0_majority 38 = .ok (.iadd, 1) := by decide +kernel
theorem dX0_majority_39 : decode cX0_majority 39 = .ok (.istore_n 2, 1) := by decide +kernel
theorem dX0_majority_40 : decode cX0_majority 40 = .ok (.iinc 3 1, 3) := by decide +kernel
theorem dX0_majority_43 : decode cX0_majority 43 = .ok (.goto (-20), 3) := by decide +kernel
theorem dX0_majority_46 : decode cX0_majority 46 = .ok (.iconst 0, 1) := by decide +kernel
theorem dX0_majority_47 : decode cX0_majority 47 = .ok (.istore_n 3, 1) := by decide +kernel
theorem dX0_majority_48 : decode cX0_majority 48 = .ok (.iconst 0, 1) := by decide +kernel
theorem dX0_majority_49 : decode cX0_majority 49 = .ok (.istore 4, 2) := by decide +kernel
theorem dX0_majority_51 : decode cX0_majority 51 = .ok (.iconst 2, 1) := by decide +kernel
theorem dX0_majority_52 : decode cX0_majority 52 = .ok (.iload_n 3, 1) := by decide +kernel
theorem dX0_majority_53 : decode cX0_majority 53 = .ok (.imul, 1) := by decide +kernel
theorem dX0_majority_54 : decode cX0_majority 54 = .ok (.iload_n 2, 1) := by decide +kernel
theorem dX0_majority_55 : decode cX0_majority 55 = .ok (.if_icmp .gt 83, 3) := by decide +kernel
theorem dX0_majority_58 : decode cX0_majority 58 = .ok (.iload 4, 2) := by decide +kernel
theorem dX0_majority_60 : decode cX0_majority 60 = .ok (.aload_n 0, 1) := by decide +kernel
theorem dX0_majority_61 : decode cX0_majority 61 = .ok (.getfield 26, 3) := by decide +kernel
theorem dX0_majority_64 : decode cX0_majority 64 = .ok (.if_icmp .ge 74, 3) := by decide +kernel
theorem dX0_majority_67 : decode cX0_majority 67 = .ok (.iconst 0, 1) := by decide +kernel
theorem dX0_majority_68 : decode cX0_majority 68 = .ok (.istore 5, 2) := by decide +kernel
theorem dX0_majority_70 : decode cX0_majority 70 = .ok (.iconst 0, 1) := by decide +kernel
theorem dX0_majority_71 : decode cX0_majority 71 = .ok (.istore 6, 2) := by decide +kernel
theorem dX0_majority_73 : decode cX0_majority 73 = .ok (.iload 6, 2) := by decide +kernel
theorem dX0_majority_75 : decode cX0_majority 75 = .ok (.aload_n 0, 1) := by decide +kernel
theorem dX0_majority_76 : decode cX0_majority 76 = .ok (.getfield 26, 3) := by decide +kernel
theorem dX0_majority_79 : decode cX0_majority 79 = .ok (.if_icmp .ge 35, 3) := by decide +kernel
theorem dX0_majority_82 : decode cX0_majority 82 = .ok (.aload_n 0, 1) := by decide +kernel
theorem dX0_majority_83 : decode cX0_majority 83 = .ok (.getfield 13, 3) := by decide +kernel
theorem dX0_majority_86 : decode cX0_majority 86 = .ok (.iload 6, 2) := by decide +kernel
theorem dX0_majority_88 : decode cX0_majority 88 = .ok (.iaload, 1) := by decide +kernel
theorem dX0_majority_89 : decode cX0_majority 89 = .ok (.aload_n 0, 1) := by decide +kernel
theorem dX0_majority_90 : decode cX0_majority 90 = .ok (.getfield 13, 3) := by decide +kernel
theorem dX0_majority_93 : decode cX0_majority 93 = .ok (.iload 5, 2) := by decide +kernel
theorem dX0_majority_95 : decode cX0_majority 95 = .ok (.iaload, 1) := by decide +kernel
theorem dX0_majority_96 : decode cX0_majority 96 = .ok (.if_icmp .le 8, 3) := by decide +kernel
theorem dX0_majority_99 : decode cX0_majority 99 = .ok (.iload 6, 2) := by decide +kernel
theorem dX0_majority_101 : decode cX0_majority 101 = .ok (.goto 5, 3) := by decide +kernel
theorem dX0_majority_104 : decode cX0_majority 104 = .ok (.iload 5, 2) := by decide +kernel
theorem dX0_majority_106 : decode cX0_majority 106 = .ok (.istore 5, 2) := by decide +kernel
theorem dX0_majority_108 : decode cX0_majority 108 = .ok (.iinc 6 1, 3) := by decide +kernel
theorem dX0_majority_111 : decode cX0_majority 111 = .ok (.goto (-38), 3) := by decide +kernel
theorem dX0_majority_114 : decode cX0_majority 114 = .ok (.iload_n 3, 1) := by decide +kernel
theorem dX0_majority_115 : decode cX0_majority 115 = .ok (.aload_n 0, 1) := by decide +kernel
theorem dX0_majority_116 : decode cX0_majority 116 = .ok (.getfield 13, 3) := by decide +kernel
theorem dX0_majority_119 : decode cX0_majority 119 = .ok (.iload 5, 2) := by decide +kernel
theorem dX0_majority_121 : decode cX0_majority 121 = .ok (.iaload, 1) := by decide +kernel
theorem dX0_majority_122 : decode cX0_majority 122 = .ok (.iadd, 1) := by decide +kernel
theorem dX0_majority_123 : decode cX0_majority 123 = .ok (.istore_n 3, 1) := by decide +kernel
theorem dX0_majority_124 : decode cX0_majority 124 = .ok (.aload_n 0, 1) := by decide +kernel
theorem dX0_majority_125 : decode cX0_majority 125 = .ok (.getfield 13, 3) := by decide +kernel
theorem dX0_majority_128 : decode cX0_majority 128 = .ok (.iload 5, 2) := by decide +kernel
theorem dX0_majority_130 : decode cX0_majority 130 = .ok (.iconst (-1), 1) := by decide +kernel
theorem dX0_majority_131 : decode cX0_majority 131 = .ok (.iastore, 1) := by decide +kernel
theorem dX0_majority_132 : decode cX0_majority 132 = .ok (.iinc 4 1, 3) := by decide +kernel
theorem dX0_majority_135 : decode cX0_majority 135 = .ok (.goto (-84), 3) := by decide +kernel
theorem dX0_majority_138 : decode cX0_majority 138 = .ok (.iload_n 2, 1) := by decide +kernel
theorem dX0_majority_139 : decode cX0_majority 139 = .ok (.ifCond .ne 7, 3) := by decide +kernel
theorem dX0_majority_142 : decode cX0_majority 142 = .ok (.iconst 0, 1) := by decide +kernel
theorem dX0_majority_143 : decode cX0_majority 143 = .ok (.goto 5, 3) := by decide +kernel
theorem dX0_majority_146 : decode cX0_majority 146 = .ok (.iload 4, 2) := by decide +kernel
theorem dX0_majority_148 : decode cX0_majority 148 = .ok (.ireturn, 1) := by decide +kernel
theorem q28 : (Jvm.Cond.initialized "SeatShares") ∈ lw_all := lw_g (lw_at lw_m1 1 rfl) rfl
theorem q31 : (Jvm.Cond.instantiable "SeatShares" (7 : Nat)) ∈ lw_all := lw_g (lw_at lw_m1 4 rfl) rfl
theorem q33 : (Jvm.Cond.instanceMethod ({ cls := "SeatShares", name := "<init>", desc := "()V" } : Jvm.MethodName)) ∈ lw_all := lw_g (lw_at lw_m1 6 rfl) rfl
theorem q34 : (Jvm.Cond.code ({ cls := "SeatShares", name := "<init>", desc := "()V" } : Jvm.MethodName) prog_1_method_1_code (1 : Nat) (Option.none : Option Jvm.ClassFile.FieldType)) ∈ lw_all := lw_g (lw_at lw_m1 7 rfl) rfl
theorem q35 : (Jvm.Cond.methodLink "SeatShares" (1 : Nat) ({ cls := "java/lang/Object", name := "<init>", desc := "()V" } : Jvm.MethodName)) ∈ lw_all := lw_g (lw_at lw_m1 8 rfl) rfl
theorem q38 : (Jvm.Cond.fieldLink "SeatShares" (26 : Nat) "SeatShares" "count" "I") ∈ lw_all := lw_g (lw_at lw_m1 11 rfl) rfl
theorem q39 : (Jvm.Cond.fieldLink "SeatShares" (37 : Nat) "SeatShares" "total" "I") ∈ lw_all := lw_g (lw_at lw_m1 12 rfl) rfl
theorem q40 : (Jvm.Cond.fieldLink "SeatShares" (7 : Nat) "SeatShares" "voteOf" "[I") ∈ lw_all := lw_g (lw_at lw_m1 13 rfl) rfl
theorem q41 : (Jvm.Cond.fieldLink "SeatShares" (13 : Nat) "SeatShares" "shareOf" "[I") ∈ lw_all := lw_g (lw_at lw_m1 14 rfl) rfl
theorem q42 : (Jvm.Cond.fieldLink "SeatShares" (16 : Nat) "SeatShares" "kept" "[I") ∈ lw_all := lw_g (lw_at lw_m1 15 rfl) rfl
theorem q43 : (Jvm.Cond.fieldLink "SeatShares" (19 : Nat) "SeatShares" "rest" "[I") ∈ lw_all := lw_g (lw_at lw_m1 16 rfl) rfl
theorem q44 : (Jvm.Cond.fieldLink "SeatShares" (22 : Nat) "SeatShares" "order" "[B") ∈ lw_all := lw_g (lw_at lw_m1 17 rfl) rfl
theorem q45 : (Jvm.Cond.lays "SeatShares" "SeatShares" "count" "I") ∈ lw_all := lw_g (lw_at lw_m1 18 rfl) rfl
theorem q46 : (Jvm.Cond.soleField "SeatShares" "count") ∈ lw_all := lw_g (lw_at lw_m1 19 rfl) rfl
theorem q47 : (Jvm.Cond.lays "SeatShares" "SeatShares" "total" "I") ∈ lw_all := lw_g (lw_at lw_m1 20 rfl) rfl
theorem q48 : (Jvm.Cond.soleField "SeatShares" "total") ∈ lw_all := lw_g (lw_at lw_m1 21 rfl) rfl
theorem q49 : (Jvm.Cond.laysFinal "SeatShares" "SeatShares" "voteOf" "[I") ∈ lw_all := lw_g (lw_at lw_m1 22 rfl) rfl
theorem q50 : (Jvm.Cond.soleField "SeatShares" "voteOf") ∈ lw_all := lw_g (lw_at lw_m1 23 rfl) rfl
theorem q51 : (Jvm.Cond.laysFinal "SeatShares" "SeatShares" "shareOf" "[I") ∈ lw_all := lw_g (lw_at lw_m1 24 rfl) rfl
theorem q52 : (Jvm.Cond.soleField "SeatShares" "shareOf") ∈ lw_all := lw_g (lw_at lw_m1 25 rfl) rfl
theorem q53 : (Jvm.Cond.laysFinal "SeatShares" "SeatShares" "kept" "[I") ∈ lw_all := lw_g (lw_at lw_m1 26 rfl) rfl
theorem q54 : (Jvm.Cond.soleField "SeatShares" "kept") ∈ lw_all := lw_g (lw_at lw_m1 27 rfl) rfl
theorem q55 : (Jvm.Cond.laysFinal "SeatShares" "SeatShares" "rest" "[I") ∈ lw_all := lw_g (lw_at lw_m1 28 rfl) rfl
theorem q56 : (Jvm.Cond.soleField "SeatShares" "rest") ∈ lw_all := lw_g (lw_at lw_m1 29 rfl) rfl
theorem q57 : (Jvm.Cond.laysFinal "SeatShares" "SeatShares" "order" "[B") ∈ lw_all := lw_g (lw_at lw_m1 30 rfl) rfl
theorem q58 : (Jvm.Cond.soleField "SeatShares" "order") ∈ lw_all := lw_g (lw_at lw_m1 31 rfl) rfl
theorem q59 : (Jvm.Cond.superclass "SeatShares" "java/lang/Object") ∈ lw_all := lw_g (lw_at lw_m1 32 rfl) rfl
theorem q63 : (Jvm.Cond.instanceMethod ({ cls := "SeatShares", name := "list", desc := "(I)I" } : Jvm.MethodName)) ∈ lw_all := lw_g (lw_at lw_m1 36 rfl) rfl
theorem q64 : (Jvm.Cond.selects "SeatShares" ({ cls := "SeatShares", name := "list", desc := "(I)I" } : Jvm.MethodName) ({ cls := "SeatShares", name := "list", desc := "(I)I" } : Jvm.MethodName)) ∈ lw_all := lw_g (lw_at lw_m1 37 rfl) rfl
theorem q65 : (Jvm.Cond.code ({ cls := "SeatShares", name := "list", desc := "(I)I" } : Jvm.MethodName) prog_1_method_5_code (2 : Nat) (Option.some Jvm.ClassFile.FieldType.int)) ∈ lw_all := lw_g (lw_at lw_m1 38 rfl) rfl
theorem q66 : (Jvm.Cond.methodLink "SeatShares" (30 : Nat) ({ cls := "SeatShares", name := "badVotes", desc := "(I)Z" } : Jvm.MethodName)) ∈ lw_all := lw_g (lw_at lw_m1 39 rfl) rfl
theorem q67 : (Jvm.Cond.privateMethod ({ cls := "SeatShares", name := "badVotes", desc := "(I)Z" } : Jvm.MethodName)) ∈ lw_tbl := lw_at lw_m1 40 rfl
theorem q68 : (Jvm.Cond.instanceMethod ({ cls := "SeatShares", name := "badVotes", desc := "(I)Z" } : Jvm.MethodName)) ∈ lw_all := lw_g (lw_at lw_m1 41 rfl) rfl
theorem q69 : (Jvm.Cond.code ({ cls := "SeatShares", name := "badVotes", desc := "(I)Z" } : Jvm.MethodName) prog_1_method_3_code (2 : Nat) (Option.some Jvm.ClassFile.FieldType.boolean)) ∈ lw_all := lw_g (lw_at lw_m1 42 rfl) rfl
theorem q71 : (Jvm.Cond.instanceMethod ({ cls := "SeatShares", name := "vote", desc := "(II)I" } : Jvm.MethodName)) ∈ lw_all := lw_g (lw_at lw_m1 44 rfl) rfl
theorem q72 : (Jvm.Cond.selects "SeatShares" ({ cls := "SeatShares", name := "vote", desc := "(II)I" } : Jvm.MethodName) ({ cls := "SeatShares", name := "vote", desc := "(II)I" } : Jvm.MethodName)) ∈ lw_all := lw_g (lw_at lw_m1 45 rfl) rfl
theorem q73 : (Jvm.Cond.code ({ cls := "SeatShares", name := "vote", desc := "(II)I" } : Jvm.MethodName) prog_1_method_6_code (4 : Nat) (Option.some Jvm.ClassFile.FieldType.int)) ∈ lw_all := lw_g (lw_at lw_m1 46 rfl) rfl
theorem q74 : (Jvm.Cond.methodLink "SeatShares" (34 : Nat) ({ cls := "SeatShares", name := "missingList", desc := "(I)Z" } : Jvm.MethodName)) ∈ lw_all := lw_g (lw_at lw_m1 47 rfl) rfl
theorem q75 : (Jvm.Cond.privateMethod ({ cls := "SeatShares", name := "missingList", desc := "(I)Z" } : Jvm.MethodName)) ∈ lw_tbl := lw_at lw_m1 48 rfl
theorem q76 : (Jvm.Cond.instanceMethod ({ cls := "SeatShares", name := "missingList", desc := "(I)Z" } : Jvm.MethodName)) ∈ lw_all := lw_g (lw_at lw_m1 49 rfl) rfl
theorem q77 : (Jvm.Cond.code ({ cls := "SeatShares", name := "missingList", desc := "(I)Z" } : Jvm.MethodName) prog_1_method_2_code (2 : Nat) (Option.some Jvm.ClassFile.FieldType.boolean)) ∈ lw_all := lw_g (lw_at lw_m1 50 rfl) rfl
theorem q79 : (Jvm.Cond.instanceMethod ({ cls := "SeatShares", name := "join", desc := "(II)I" } : Jvm.MethodName)) ∈ lw_all := lw_g (lw_at lw_m1 52 rfl) rfl
theorem q80 : (Jvm.Cond.selects "SeatShares" ({ cls := "SeatShares", name := "join", desc := "(II)I" } : Jvm.MethodName) ({ cls := "SeatShares", name := "join", desc := "(II)I" } : Jvm.MethodName)) ∈ lw_all := lw_g (lw_at lw_m1 53 rfl) rfl
theorem q81 : (Jvm.Cond.code ({ cls := "SeatShares", name := "join", desc := "(II)I" } : Jvm.MethodName) prog_1_method_7_code (4 : Nat) (Option.some Jvm.ClassFile.FieldType.int)) ∈ lw_all := lw_g (lw_at lw_m1 54 rfl) rfl
theorem q83 : (Jvm.Cond.instanceMethod ({ cls := "SeatShares", name := "seats", desc := "(I)I" } : Jvm.MethodName)) ∈ lw_all := lw_g (lw_at lw_m1 56 rfl) rfl
theorem q84 : (Jvm.Cond.selects "SeatShares" ({ cls := "SeatShares", name := "seats", desc := "(I)I" } : Jvm.MethodName) ({ cls := "SeatShares", name := "seats", desc := "(I)I" } : Jvm.MethodName)) ∈ lw_all := lw_g (lw_at lw_m1 57 rfl) rfl
theorem q85 : (Jvm.Cond.code ({ cls := "SeatShares", name := "seats", desc := "(I)I" } : Jvm.MethodName) prog_1_method_8_code (3 : Nat) (Option.some Jvm.ClassFile.FieldType.int)) ∈ lw_all := lw_g (lw_at lw_m1 58 rfl) rfl
theorem q87 : (Jvm.Cond.instanceMethod ({ cls := "SeatShares", name := "bar", desc := "(I)I" } : Jvm.MethodName)) ∈ lw_all := lw_g (lw_at lw_m1 60 rfl) rfl
theorem q88 : (Jvm.Cond.selects "SeatShares" ({ cls := "SeatShares", name := "bar", desc := "(I)I" } : Jvm.MethodName) ({ cls := "SeatShares", name := "bar", desc := "(I)I" } : Jvm.MethodName)) ∈ lw_all := lw_g (lw_at lw_m1 61 rfl) rfl
theorem q89 : (Jvm.Cond.code ({ cls := "SeatShares", name := "bar", desc := "(I)I" } : Jvm.MethodName) prog_1_method_10_code (5 : Nat) (Option.some Jvm.ClassFile.FieldType.int)) ∈ lw_all := lw_g (lw_at lw_m1 62 rfl) rfl
theorem q90 : (Jvm.Cond.methodLink "SeatShares" (40 : Nat) ({ cls := "SeatShares", name := "allVotes", desc := "()I" } : Jvm.MethodName)) ∈ lw_all := lw_g (lw_at lw_m1 63 rfl) rfl
theorem q91 : (Jvm.Cond.privateMethod ({ cls := "SeatShares", name := "allVotes", desc := "()I" } : Jvm.MethodName)) ∈ lw_tbl := lw_at lw_m1 64 rfl
theorem q92 : (Jvm.Cond.instanceMethod ({ cls := "SeatShares", name := "allVotes", desc := "()I" } : Jvm.MethodName)) ∈ lw_all := lw_g (lw_at lw_m1 65 rfl) rfl
theorem q93 : (Jvm.Cond.code ({ cls := "SeatShares", name := "allVotes", desc := "()I" } : Jvm.MethodName) prog_1_method_9_code (3 : Nat) (Option.some Jvm.ClassFile.FieldType.int)) ∈ lw_all := lw_g (lw_at lw_m1 66 rfl) rfl
theorem q95 : (Jvm.Cond.instanceMethod ({ cls := "SeatShares", name := "lists", desc := "()I" } : Jvm.MethodName)) ∈ lw_all := lw_g (lw_at lw_m1 68 rfl) rfl
theorem q96 : (Jvm.Cond.selects "SeatShares" ({ cls := "SeatShares", name := "lists", desc := "()I" } : Jvm.MethodName) ({ cls := "SeatShares", name := "lists", desc := "()I" } : Jvm.MethodName)) ∈ lw_all := lw_g (lw_at lw_m1 69 rfl) rfl
theorem q97 : (Jvm.Cond.code ({ cls := "SeatShares", name := "lists", desc := "()I" } : Jvm.MethodName) prog_1_method_11_code (1 : Nat) (Option.some Jvm.ClassFile.FieldType.int)) ∈ lw_all := lw_g (lw_at lw_m1 70 rfl) rfl
theorem q99 : (Jvm.Cond.instanceMethod ({ cls := "SeatShares", name := "votes", desc := "()I" } : Jvm.MethodName)) ∈ lw_all := lw_g (lw_at lw_m1 72 rfl) rfl
theorem q100 : (Jvm.Cond.selects "SeatShares" ({ cls := "SeatShares", name := "votes", desc := "()I" } : Jvm.MethodName) ({ cls := "SeatShares", name := "votes", desc := "()I" } : Jvm.MethodName)) ∈ lw_all := lw_g (lw_at lw_m1 73 rfl) rfl
theorem q101 : (Jvm.Cond.code ({ cls := "SeatShares", name := "votes", desc := "()I" } : Jvm.MethodName) prog_1_method_12_code (1 : Nat) (Option.some Jvm.ClassFile.FieldType.int)) ∈ lw_all := lw_g (lw_at lw_m1 74 rfl) rfl
theorem q103 : (Jvm.Cond.instanceMethod ({ cls := "SeatShares", name := "share", desc := "(II)I" } : Jvm.MethodName)) ∈ lw_all := lw_g (lw_at lw_m1 76 rfl) rfl
theorem q104 : (Jvm.Cond.selects "SeatShares" ({ cls := "SeatShares", name := "share", desc := "(II)I" } : Jvm.MethodName) ({ cls := "SeatShares", name := "share", desc := "(II)I" } : Jvm.MethodName)) ∈ lw_all := lw_g (lw_at lw_m1 77 rfl) rfl
theorem q105 : (Jvm.Cond.code ({ cls := "SeatShares", name := "share", desc := "(II)I" } : Jvm.MethodName) prog_1_method_23_code (3 : Nat) (Option.some Jvm.ClassFile.FieldType.int)) ∈ lw_all := lw_g (lw_at lw_m1 78 rfl) rfl
theorem q106 : (Jvm.Cond.methodLink "SeatShares" (83 : Nat) ({ cls := "SeatShares", name := "badRule", desc := "(I)Z" } : Jvm.MethodName)) ∈ lw_all := lw_g (lw_at lw_m1 79 rfl) rfl
theorem q107 : (Jvm.Cond.privateMethod ({ cls := "SeatShares", name := "badRule", desc := "(I)Z" } : Jvm.MethodName)) ∈ lw_tbl := lw_at lw_m1 80 rfl
theorem q108 : (Jvm.Cond.instanceMethod ({ cls := "SeatShares", name := "badRule", desc := "(I)Z" } : Jvm.MethodName)) ∈ lw_all := lw_g (lw_at lw_m1 81 rfl) rfl
theorem q109 : (Jvm.Cond.code ({ cls := "SeatShares", name := "badRule", desc := "(I)Z" } : Jvm.MethodName) prog_1_method_4_code (2 : Nat) (Option.some Jvm.ClassFile.FieldType.boolean)) ∈ lw_all := lw_g (lw_at lw_m1 82 rfl) rfl
theorem q110 : (Jvm.Cond.methodLink "SeatShares" (86 : Nat) ({ cls := "SeatShares", name := "shareOut", desc := "(II)V" } : Jvm.MethodName)) ∈ lw_all := lw_g (lw_at lw_m1 83 rfl) rfl
theorem q111 : (Jvm.Cond.privateMethod ({ cls := "SeatShares", name := "shareOut", desc := "(II)V" } : Jvm.MethodName)) ∈ lw_tbl := lw_at lw_m1 84 rfl
theorem q112 : (Jvm.Cond.instanceMethod ({ cls := "SeatShares", name := "shareOut", desc := "(II)V" } : Jvm.MethodName)) ∈ lw_all := lw_g (lw_at lw_m1 85 rfl) rfl
theorem q113 : (Jvm.Cond.code ({ cls := "SeatShares", name := "shareOut", desc := "(II)V" } : Jvm.MethodName) prog_1_method_22_code (5 : Nat) (Option.none : Option Jvm.ClassFile.FieldType)) ∈ lw_all := lw_g (lw_at lw_m1 86 rfl) rfl
theorem q114 : (Jvm.Cond.methodLink "SeatShares" (76 : Nat) ({ cls := "SeatShares", name := "shareByQuotients", desc := "(III)V" } : Jvm.MethodName)) ∈ lw_all := lw_g (lw_at lw_m1 87 rfl) rfl
theorem q115 : (Jvm.Cond.privateMethod ({ cls := "SeatShares", name := "shareByQuotients", desc := "(III)V" } : Jvm.MethodName)) ∈ lw_tbl := lw_at lw_m1 88 rfl
theorem q116 : (Jvm.Cond.instanceMethod ({ cls := "SeatShares", name := "shareByQuotients", desc := "(III)V" } : Jvm.MethodName)) ∈ lw_all := lw_g (lw_at lw_m1 89 rfl) rfl
theorem q117 : (Jvm.Cond.code ({ cls := "SeatShares", name := "shareByQuotients", desc := "(III)V" } : Jvm.MethodName) prog_1_method_19_code (6 : Nat) (Option.none : Option Jvm.ClassFile.FieldType)) ∈ lw_all := lw_g (lw_at lw_m1 90 rfl) rfl
theorem q118 : (Jvm.Cond.methodLink "SeatShares" (62 : Nat) ({ cls := "SeatShares", name := "startShare", desc := "(IIII)I" } : Jvm.MethodName)) ∈ lw_all := lw_g (lw_at lw_m1 91 rfl) rfl
theorem q119 : (Jvm.Cond.privateMethod ({ cls := "SeatShares", name := "startShare", desc := "(IIII)I" } : Jvm.MethodName)) ∈ lw_tbl := lw_at lw_m1 92 rfl
theorem q120 : (Jvm.Cond.instanceMethod ({ cls := "SeatShares", name := "startShare", desc := "(IIII)I" } : Jvm.MethodName)) ∈ lw_all := lw_g (lw_at lw_m1 93 rfl) rfl
theorem q121 : (Jvm.Cond.code ({ cls := "SeatShares", name := "startShare", desc := "(IIII)I" } : Jvm.MethodName) prog_1_method_18_code (10 : Nat) (Option.some Jvm.ClassFile.FieldType.int)) ∈ lw_all := lw_g (lw_at lw_m1 94 rfl) rfl
theorem q122 : (Jvm.Cond.constantLong "SeatShares" (56 : Nat) (2 : Int64)) ∈ lw_all := lw_g (lw_at lw_m1 95 rfl) rfl
theorem q123 : (Jvm.Cond.constantLong "SeatShares" (58 : Nat) (10 : Int64)) ∈ lw_all := lw_g (lw_at lw_m1 96 rfl) rfl
theorem q124 : (Jvm.Cond.constantLong "SeatShares" (60 : Nat) (5 : Int64)) ∈ lw_all := lw_g (lw_at lw_m1 97 rfl) rfl
theorem q125 : (Jvm.Cond.methodLink "SeatShares" (48 : Nat) ({ cls := "SeatShares", name := "worth", desc := "(II)J" } : Jvm.MethodName)) ∈ lw_all := lw_g (lw_at lw_m1 98 rfl) rfl
theorem q126 : (Jvm.Cond.privateMethod ({ cls := "SeatShares", name := "worth", desc := "(II)J" } : Jvm.MethodName)) ∈ lw_tbl := lw_at lw_m1 99 rfl
theorem q127 : (Jvm.Cond.instanceMethod ({ cls := "SeatShares", name := "worth", desc := "(II)J" } : Jvm.MethodName)) ∈ lw_all := lw_g (lw_at lw_m1 100 rfl) rfl
theorem q128 : (Jvm.Cond.code ({ cls := "SeatShares", name := "worth", desc := "(II)J" } : Jvm.MethodName) prog_1_method_14_code (5 : Nat) (Option.some Jvm.ClassFile.FieldType.long)) ∈ lw_all := lw_g (lw_at lw_m1 101 rfl) rfl
theorem q129 : (Jvm.Cond.methodLink "SeatShares" (44 : Nat) ({ cls := "SeatShares", name := "divisor", desc := "(II)I" } : Jvm.MethodName)) ∈ lw_all := lw_g (lw_at lw_m1 102 rfl) rfl
theorem q130 : (Jvm.Cond.privateMethod ({ cls := "SeatShares", name := "divisor", desc := "(II)I" } : Jvm.MethodName)) ∈ lw_tbl := lw_at lw_m1 103 rfl
theorem q131 : (Jvm.Cond.instanceMethod ({ cls := "SeatShares", name := "divisor", desc := "(II)I" } : Jvm.MethodName)) ∈ lw_all := lw_g (lw_at lw_m1 104 rfl) rfl
theorem q132 : (Jvm.Cond.code ({ cls := "SeatShares", name := "divisor", desc := "(II)I" } : Jvm.MethodName) prog_1_method_13_code (3 : Nat) (Option.some Jvm.ClassFile.FieldType.int)) ∈ lw_all := lw_g (lw_at lw_m1 105 rfl) rfl
theorem q133 : (Jvm.Cond.methodLink "SeatShares" (66 : Nat) ({ cls := "SeatShares", name := "lastTaken", desc := "(I)I" } : Jvm.MethodName)) ∈ lw_all := lw_g (lw_at lw_m1 106 rfl) rfl
theorem q134 : (Jvm.Cond.privateMethod ({ cls := "SeatShares", name := "lastTaken", desc := "(I)I" } : Jvm.MethodName)) ∈ lw_tbl := lw_at lw_m1 107 rfl
theorem q135 : (Jvm.Cond.instanceMethod ({ cls := "SeatShares", name := "lastTaken", desc := "(I)I" } : Jvm.MethodName)) ∈ lw_all := lw_g (lw_at lw_m1 108 rfl) rfl
theorem q136 : (Jvm.Cond.code ({ cls := "SeatShares", name := "lastTaken", desc := "(I)I" } : Jvm.MethodName) prog_1_method_17_code (4 : Nat) (Option.some Jvm.ClassFile.FieldType.int)) ∈ lw_all := lw_g (lw_at lw_m1 109 rfl) rfl
theorem q137 : (Jvm.Cond.methodLink "SeatShares" (52 : Nat) ({ cls := "SeatShares", name := "before", desc := "(IIIII)Z" } : Jvm.MethodName)) ∈ lw_all := lw_g (lw_at lw_m1 110 rfl) rfl
theorem q138 : (Jvm.Cond.privateMethod ({ cls := "SeatShares", name := "before", desc := "(IIIII)Z" } : Jvm.MethodName)) ∈ lw_tbl := lw_at lw_m1 111 rfl
theorem q139 : (Jvm.Cond.instanceMethod ({ cls := "SeatShares", name := "before", desc := "(IIIII)Z" } : Jvm.MethodName)) ∈ lw_all := lw_g (lw_at lw_m1 112 rfl) rfl
theorem q140 : (Jvm.Cond.code ({ cls := "SeatShares", name := "before", desc := "(IIIII)Z" } : Jvm.MethodName) prog_1_method_15_code (18 : Nat) (Option.some Jvm.ClassFile.FieldType.boolean)) ∈ lw_all := lw_g (lw_at lw_m1 113 rfl) rfl
theorem q141 : (Jvm.Cond.methodLink "SeatShares" (70 : Nat) ({ cls := "SeatShares", name := "firstNext", desc := "(I)I" } : Jvm.MethodName)) ∈ lw_all := lw_g (lw_at lw_m1 114 rfl) rfl
theorem q142 : (Jvm.Cond.privateMethod ({ cls := "SeatShares", name := "firstNext", desc := "(I)I" } : Jvm.MethodName)) ∈ lw_tbl := lw_at lw_m1 115 rfl
theorem q143 : (Jvm.Cond.instanceMethod ({ cls := "SeatShares", name := "firstNext", desc := "(I)I" } : Jvm.MethodName)) ∈ lw_all := lw_g (lw_at lw_m1 116 rfl) rfl
theorem q144 : (Jvm.Cond.code ({ cls := "SeatShares", name := "firstNext", desc := "(I)I" } : Jvm.MethodName) prog_1_method_16_code (4 : Nat) (Option.some Jvm.ClassFile.FieldType.int)) ∈ lw_all := lw_g (lw_at lw_m1 117 rfl) rfl
theorem q145 : (Jvm.Cond.methodLink "SeatShares" (80 : Nat) ({ cls := "SeatShares", name := "shareByRests", desc := "(III)V" } : Jvm.MethodName)) ∈ lw_all := lw_g (lw_at lw_m1 118 rfl) rfl
theorem q146 : (Jvm.Cond.privateMethod ({ cls := "SeatShares", name := "shareByRests", desc := "(III)V" } : Jvm.MethodName)) ∈ lw_tbl := lw_at lw_m1 119 rfl
theorem q147 : (Jvm.Cond.instanceMethod ({ cls := "SeatShares", name := "shareByRests", desc := "(III)V" } : Jvm.MethodName)) ∈ lw_all := lw_g (lw_at lw_m1 120 rfl) rfl
theorem q148 : (Jvm.Cond.code ({ cls := "SeatShares", name := "shareByRests", desc := "(III)V" } : Jvm.MethodName) prog_1_method_20_code (10 : Nat) (Option.none : Option Jvm.ClassFile.FieldType)) ∈ lw_all := lw_g (lw_at lw_m1 121 rfl) rfl
theorem q149 : (Jvm.Cond.methodLink "SeatShares" (73 : Nat) ({ cls := "SeatShares", name := "putInOrder", desc := "(II)I" } : Jvm.MethodName)) ∈ lw_all := lw_g (lw_at lw_m1 122 rfl) rfl
theorem q150 : (Jvm.Cond.privateMethod ({ cls := "SeatShares", name := "putInOrder", desc := "(II)I" } : Jvm.MethodName)) ∈ lw_tbl := lw_at lw_m1 123 rfl
theorem q151 : (Jvm.Cond.instanceMethod ({ cls := "SeatShares", name := "putInOrder", desc := "(II)I" } : Jvm.MethodName)) ∈ lw_all := lw_g (lw_at lw_m1 124 rfl) rfl
theorem q152 : (Jvm.Cond.code ({ cls := "SeatShares", name := "putInOrder", desc := "(II)I" } : Jvm.MethodName) prog_1_method_21_code (4 : Nat) (Option.some Jvm.ClassFile.FieldType.int)) ∈ lw_all := lw_g (lw_at lw_m1 125 rfl) rfl
theorem q154 : (Jvm.Cond.instanceMethod ({ cls := "SeatShares", name := "next", desc := "(I)I" } : Jvm.MethodName)) ∈ lw_all := lw_g (lw_at lw_m1 127 rfl) rfl
theorem q155 : (Jvm.Cond.selects "SeatShares" ({ cls := "SeatShares", name := "next", desc := "(I)I" } : Jvm.MethodName) ({ cls := "SeatShares", name := "next", desc := "(I)I" } : Jvm.MethodName)) ∈ lw_all := lw_g (lw_at lw_m1 128 rfl) rfl
theorem q156 : (Jvm.Cond.code ({ cls := "SeatShares", name := "next", desc := "(I)I" } : Jvm.MethodName) prog_1_method_24_code (3 : Nat) (Option.some Jvm.ClassFile.FieldType.int)) ∈ lw_all := lw_g (lw_at lw_m1 129 rfl) rfl
theorem q158 : (Jvm.Cond.instanceMethod ({ cls := "SeatShares", name := "missing", desc := "(II)I" } : Jvm.MethodName)) ∈ lw_all := lw_g (lw_at lw_m1 131 rfl) rfl
theorem q159 : (Jvm.Cond.selects "SeatShares" ({ cls := "SeatShares", name := "missing", desc := "(II)I" } : Jvm.MethodName) ({ cls := "SeatShares", name := "missing", desc := "(II)I" } : Jvm.MethodName)) ∈ lw_all := lw_g (lw_at lw_m1 132 rfl) rfl
theorem q160 : (Jvm.Cond.code ({ cls := "SeatShares", name := "missing", desc := "(II)I" } : Jvm.MethodName) prog_1_method_26_code (9 : Nat) (Option.some Jvm.ClassFile.FieldType.int)) ∈ lw_all := lw_g (lw_at lw_m1 133 rfl) rfl
theorem q161 : (Jvm.Cond.methodLink "SeatShares" (90 : Nat) ({ cls := "SeatShares", name := "shareWith", desc := "(III)I" } : Jvm.MethodName)) ∈ lw_all := lw_g (lw_at lw_m1 134 rfl) rfl
theorem q162 : (Jvm.Cond.privateMethod ({ cls := "SeatShares", name := "shareWith", desc := "(III)I" } : Jvm.MethodName)) ∈ lw_tbl := lw_at lw_m1 135 rfl
theorem q163 : (Jvm.Cond.instanceMethod ({ cls := "SeatShares", name := "shareWith", desc := "(III)I" } : Jvm.MethodName)) ∈ lw_all := lw_g (lw_at lw_m1 136 rfl) rfl
theorem q164 : (Jvm.Cond.code ({ cls := "SeatShares", name := "shareWith", desc := "(III)I" } : Jvm.MethodName) prog_1_method_25_code (5 : Nat) (Option.some Jvm.ClassFile.FieldType.int)) ∈ lw_all := lw_g (lw_at lw_m1 137 rfl) rfl
theorem q166 : (Jvm.Cond.instanceMethod ({ cls := "SeatShares", name := "spare", desc := "(II)I" } : Jvm.MethodName)) ∈ lw_all := lw_g (lw_at lw_m1 139 rfl) rfl
theorem q167 : (Jvm.Cond.selects "SeatShares" ({ cls := "SeatShares", name := "spare", desc := "(II)I" } : Jvm.MethodName) ({ cls := "SeatShares", name := "spare", desc := "(II)I" } : Jvm.MethodName)) ∈ lw_all := lw_g (lw_at lw_m1 140 rfl) rfl
theorem q168 : (Jvm.Cond.code ({ cls := "SeatShares", name := "spare", desc := "(II)I" } : Jvm.MethodName) prog_1_method_27_code (9 : Nat) (Option.some Jvm.ClassFile.FieldType.int)) ∈ lw_all := lw_g (lw_at lw_m1 141 rfl) rfl
theorem q170 : (Jvm.Cond.instanceMethod ({ cls := "SeatShares", name := "fall", desc := "(I)I" } : Jvm.MethodName)) ∈ lw_all := lw_g (lw_at lw_m1 143 rfl) rfl
theorem q171 : (Jvm.Cond.selects "SeatShares" ({ cls := "SeatShares", name := "fall", desc := "(I)I" } : Jvm.MethodName) ({ cls := "SeatShares", name := "fall", desc := "(I)I" } : Jvm.MethodName)) ∈ lw_all := lw_g (lw_at lw_m1 144 rfl) rfl
theorem q172 : (Jvm.Cond.code ({ cls := "SeatShares", name := "fall", desc := "(I)I" } : Jvm.MethodName) prog_1_method_29_code (5 : Nat) (Option.some Jvm.ClassFile.FieldType.int)) ∈ lw_all := lw_g (lw_at lw_m1 145 rfl) rfl
theorem q173 : (Jvm.Cond.methodLink "SeatShares" (94 : Nat) ({ cls := "SeatShares", name := "keepShares", desc := "()V" } : Jvm.MethodName)) ∈ lw_all := lw_g (lw_at lw_m1 146 rfl) rfl
theorem q174 : (Jvm.Cond.privateMethod ({ cls := "SeatShares", name := "keepShares", desc := "()V" } : Jvm.MethodName)) ∈ lw_tbl := lw_at lw_m1 147 rfl
theorem q175 : (Jvm.Cond.instanceMethod ({ cls := "SeatShares", name := "keepShares", desc := "()V" } : Jvm.MethodName)) ∈ lw_all := lw_g (lw_at lw_m1 148 rfl) rfl
theorem q176 : (Jvm.Cond.code ({ cls := "SeatShares", name := "keepShares", desc := "()V" } : Jvm.MethodName) prog_1_method_28_code (2 : Nat) (Option.none : Option Jvm.ClassFile.FieldType)) ∈ lw_all := lw_g (lw_at lw_m1 149 rfl) rfl
theorem q178 : (Jvm.Cond.instanceMethod ({ cls := "SeatShares", name := "outside", desc := "(I)I" } : Jvm.MethodName)) ∈ lw_all := lw_g (lw_at lw_m1 151 rfl) rfl
theorem q179 : (Jvm.Cond.selects "SeatShares" ({ cls := "SeatShares", name := "outside", desc := "(I)I" } : Jvm.MethodName) ({ cls := "SeatShares", name := "outside", desc := "(I)I" } : Jvm.MethodName)) ∈ lw_all := lw_g (lw_at lw_m1 152 rfl) rfl
theorem q180 : (Jvm.Cond.code ({ cls := "SeatShares", name := "outside", desc := "(I)I" } : Jvm.MethodName) prog_1_method_30_code (7 : Nat) (Option.some Jvm.ClassFile.FieldType.int)) ∈ lw_all := lw_g (lw_at lw_m1 153 rfl) rfl
theorem q182 : (Jvm.Cond.instanceMethod ({ cls := "SeatShares", name := "moved", desc := "(II)I" } : Jvm.MethodName)) ∈ lw_all := lw_g (lw_at lw_m1 155 rfl) rfl
theorem q183 : (Jvm.Cond.selects "SeatShares" ({ cls := "SeatShares", name := "moved", desc := "(II)I" } : Jvm.MethodName) ({ cls := "SeatShares", name := "moved", desc := "(II)I" } : Jvm.MethodName)) ∈ lw_all := lw_g (lw_at lw_m1 156 rfl) rfl
theorem q184 : (Jvm.Cond.code ({ cls := "SeatShares", name := "moved", desc := "(II)I" } : Jvm.MethodName) prog_1_method_31_code (5 : Nat) (Option.some Jvm.ClassFile.FieldType.int)) ∈ lw_all := lw_g (lw_at lw_m1 157 rfl) rfl
theorem q186 : (Jvm.Cond.instanceMethod ({ cls := "SeatShares", name := "majority", desc := "(I)I" } : Jvm.MethodName)) ∈ lw_all := lw_g (lw_at lw_m1 159 rfl) rfl
theorem q187 : (Jvm.Cond.selects "SeatShares" ({ cls := "SeatShares", name := "majority", desc := "(I)I" } : Jvm.MethodName) ({ cls := "SeatShares", name := "majority", desc := "(I)I" } : Jvm.MethodName)) ∈ lw_all := lw_g (lw_at lw_m1 160 rfl) rfl
theorem q188 : (Jvm.Cond.code ({ cls := "SeatShares", name := "majority", desc := "(I)I" } : Jvm.MethodName) prog_1_method_32_code (7 : Nat) (Option.some Jvm.ClassFile.FieldType.int)) ∈ lw_all := lw_g (lw_at lw_m1 161 rfl) rfl
theorem in_X0 : ∀ w ∈ wsX00, w ∈ lw_all := lw_in wsX00 [45, 47, 49, 51, 53, 55, 57] (by decide +kernel) (by decide +kernel)
end
section
set_option maxRecDepth 100000
/-! SeatSharesModel -/
def RX1 : String := "SeatSharesModel"
def TX1 : u_T := fun k => match k with
  | 0 => ("SeatSharesModel", "count", "I", false)
  | 1 => ("SeatSharesModel", "votes", "[I", false)
  | 2 => ("SeatSharesModel", "seats", "I", false)
  | 3 => ("SeatSharesModel", "shares", "[I", false)
  | _ => ("SeatSharesModel", "kept", "[I", false)
def tyX1 : Nat → FieldType := fun k => match k with
  | 0 => .int
  | 1 => .array .int
  | 2 => .int
  | 3 => .array .int
  | _ => .array .int
abbrev wsX10 : List Cond := u_ws RX1 TX1 5
theorem nmX1 : ∀ a, a < 5 → ∀ b, b < 5 → a ≠ b → (TX1 a).2.1 ≠ (TX1 b).2.1 := by decide +kernel
theorem tyX1_ok : ∀ k, k < 5 → parseFieldDescriptor (TX1 k).2.2.1 = some (tyX1 k) := by decide +kernel
abbrev cX1_init : ByteArray := prog_3_method_1_code
def yX1_init : MethodName := ⟨RX1, "<init>", "()V"⟩
theorem dX1_init_0 : decode cX1_init 0 = .ok (.aload_n 0, 1) := by decide +kernel
theorem dX1_init_1 : decode cX1_init 1 = .ok (.invokespecial 1, 3) := by decide +kernel
theorem dX1_init_4 : decode cX1_init 4 = .ok (.aload_n 0, 1) := by decide +kernel
theorem dX1_init_5 : decode cX1_init 5 = .ok (.bipush 6, 2) := by decide +kernel
theorem dX1_init_7 : decode cX1_init 7 = .ok (.newarray .int, 2) := by decide +kernel
theorem dX1_init_9 : decode cX1_init 9 = .ok (.putfield 7, 3) := by decide +kernel
theorem dX1_init_12 : decode cX1_init 12 = .ok (.aload_n 0, 1) := by decide +kernel
theorem dX1_init_13 : decode cX1_init 13 = .ok (.bipush 6, 2) := by decide +kernel
theorem dX1_init_15 : decode cX1_init 15 = .ok (.newarray .int, 2) := by decide +kernel
theorem dX1_init_17 : decode cX1_init 17 = .ok (.putfield 13, 3) := by decide +kernel
theorem dX1_init_20 : decode cX1_init 20 = .ok (.aload_n 0, 1) := by decide +kernel
theorem dX1_init_21 : decode cX1_init 21 = .ok (.bipush 6, 2) := by decide +kernel
theorem dX1_init_23 : decode cX1_init 23 = .ok (.newarray .int, 2) := by decide +kernel
theorem dX1_init_25 : decode cX1_init 25 = .ok (.putfield 16, 3) := by decide +kernel
theorem dX1_init_28 : decode cX1_init 28 = .ok (.return_, 1) := by decide +kernel
abbrev cX1_list : ByteArray := prog_3_method_4_code
def yX1_list : MethodName := ⟨RX1, "list", "(I)I"⟩
theorem dX1_list_0 : decode cX1_list 0 = .ok (.aload_n 0, 1) := by decide +kernel
theorem dX1_list_1 : decode cX1_list 1 = .ok (.iload_n 1, 1) := by decide +kernel
theorem dX1_list_2 : decode cX1_list 2 = .ok (.invokevirtual 23, 3) := by decide +kernel
theorem dX1_list_5 : decode cX1_list 5 = .ok (.ifCond .eq 5, 3) := by decide +kernel
theorem dX1_list_8 : decode cX1_list 8 = .ok (.iconst (-1), 1) := by decide +kernel
theorem dX1_list_9 : decode cX1_list 9 = .ok (.ireturn, 1) := by decide +kernel
theorem dX1_list_10 : decode cX1_list 10 = .ok (.aload_n 0, 1) := by decide +kernel
theorem dX1_list_11 : decode cX1_list 11 = .ok (.getfield 19, 3) := by decide +kernel
theorem dX1_list_14 : decode cX1_list 14 = .ok (.bipush 6, 2) := by decide +kernel
theorem dX1_list_16 : decode cX1_list 16 = .ok (.if_icmp .ne 6, 3) := by decide +kernel
theorem dX1_list_19 : decode cX1_list 19 = .ok (.bipush (-2), 2) := by decide +kernel
theorem dX1_list_21 : decode cX1_list 21 = .ok (.ireturn, 1) := by decide +kernel
theorem dX1_list_22 : decode cX1_list 22 = .ok (.aload_n 0, 1) := by decide +kernel
theorem dX1_list_23 : decode cX1_list 23 = .ok (.getfield 7, 3) := by decide +kernel
theorem dX1_list_26 : decode cX1_list 26 = .ok (.aload_n 0, 1) := by decide +kernel
theorem dX1_list_27 : decode cX1_list 27 = .ok (.getfield 19, 3) := by decide +kernel
theorem dX1_list_30 : decode cX1_list 30 = .ok (.iload_n 1, 1) := by decide +kernel
theorem dX1_list_31 : decode cX1_list 31 = .ok (.iastore, 1) := by decide +kernel
theorem dX1_list_32 : decode cX1_list 32 = .ok (.aload_n 0, 1) := by decide +kernel
theorem dX1_list_33 : decode cX1_list 33 = .ok (.dup, 1) := by decide +kernel
theorem dX1_list_34 : decode cX1_list 34 = .ok (.getfield 19, 3) := by decide +kernel
theorem dX1_list_37 : decode cX1_list 37 = .ok (.iconst 1, 1) := by decide +kernel
theorem dX1_list_38 : decode cX1_list 38 = .ok (.iadd, 1) := by decide +kernel
theorem dX1_list_39 : decode cX1_list 39 = .ok (.putfield 19, 3) := by decide +kernel
theorem dX1_list_42 : decode cX1_list 42 = .ok (.aload_n 0, 1) := by decide +kernel
theorem dX1_list_43 : decode cX1_list 43 = .ok (.getfield 19, 3) := by decide +kernel
theorem dX1_list_46 : decode cX1_list 46 = .ok (.iconst 1, 1) := by decide +kernel
theorem dX1_list_47 : decode cX1_list 47 = .ok (.isub, 1) := by decide +kernel
theorem dX1_list_48 : decode cX1_list 48 = .ok (.ireturn, 1) := by decide +kernel
abbrev cX1_noVotes : ByteArray := prog_3_method_2_code
def yX1_noVotes : MethodName := ⟨RX1, "noVotes", "(I)Z"⟩
theorem dX1_noVotes_0 : decode cX1_noVotes 0 = .ok (.iload_n 1, 1) := by decide +kernel
theorem dX1_noVotes_1 : decode cX1_noVotes 1 = .ok (.ifCond .lt 10, 3) := by decide +kernel
theorem dX1_noVotes_4 : decode cX1_noVotes 4 = .ok (.iload_n 1, 1) := by decide +kernel
theorem dX1_noVotes_5 : decode cX1_noVotes 5 = .ok (.sipush 999, 3) := by decide +kernel
theorem dX1_noVotes_8 : decode cX1_noVotes 8 = .ok (.if_icmp .le 7, 3) := by decide +kernel
theorem dX1_noVotes_11 : decode cX1_noVotes 11 = .ok (.iconst 1, 1) := by decide +kernel
theorem dX1_noVotes_12 : decode cX1_noVotes 12 = .ok (.goto 4, 3) := by decide +kernel
theorem dX1_noVotes_15 : decode cX1_noVotes 15 = .ok (.iconst 0, 1) := by decide +kernel
theorem dX1_noVotes_16 : decode cX1_noVotes 16 = .ok (.ireturn, 1) := by decide +kernel
abbrev cX1_vote : ByteArray := prog_3_method_5_code
def yX1_vote : MethodName := ⟨RX1, "vote", "(II)I"⟩
theorem dX1_vote_0 : decode cX1_vote 0 = .ok (.aload_n 0, 1) := by decide +kernel
theorem dX1_vote_1 : decode cX1_vote 1 = .ok (.iload_n 1, 1) := by decide +kernel
theorem dX1_vote_2 : decode cX1_vote 2 = .ok (.invokevirtual 27, 3) := by decide +kernel
theorem dX1_vote_5 : decode cX1_vote 5 = .ok (.ifCond .ne 11, 3) := by decide +kernel
theorem dX1_vote_8 : decode cX1_vote 8 = .ok (.aload_n 0, 1) := by decide +kernel
theorem dX1_vote_9 : decode cX1_vote 9 = .ok (.iload_n 2, 1) := by decide +kernel
theorem dX1_vote_10 : decode cX1_vote 10 = .ok (.invokevirtual 23, 3) := by decide +kernel
theorem dX1_vote_13 : decode cX1_vote 13 = .ok (.ifCond .eq 5, 3) := by decide +kernel
theorem dX1_vote_16 : decode cX1_vote 16 = .ok (.iconst (-1), 1) := by decide +kernel
theorem dX1_vote_17 : decode cX1_vote 17 = .ok (.ireturn, 1) := by decide +kernel
theorem dX1_vote_18 : decode cX1_vote 18 = .ok (.aload_n 0, 1) := by decide +kernel
theorem dX1_vote_19 : decode cX1_vote 19 = .ok (.getfield 7, 3) := by decide +kernel
theorem dX1_vote_22 : decode cX1_vote 22 = .ok (.iload_n 1, 1) := by decide +kernel
theorem dX1_vote_23 : decode cX1_vote 23 = .ok (.iaload, 1) := by decide +kernel
theorem dX1_vote_24 : decode cX1_vote 24 = .ok (.istore_n 3, 1) := by decide +kernel
theorem dX1_vote_25 : decode cX1_vote 25 = .ok (.aload_n 0, 1) := by decide +kernel
theorem dX1_vote_26 : decode cX1_vote 26 = .ok (.getfield 7, 3) := by decide +kernel
theorem dX1_vote_29 : decode cX1_vote 29 = .ok (.iload_n 1, 1) := by decide +kernel
theorem dX1_vote_30 : decode cX1_vote 30 = .ok (.iload_n 2, 1) := by decide +kernel
theorem dX1_vote_31 : decode cX1_vote 31 = .ok (.iastore, 1) := by decide +kernel
theorem dX1_vote_32 : decode cX1_vote 32 = .ok (.iload_n 3, 1) := by decide +kernel
theorem dX1_vote_33 : decode cX1_vote 33 = .ok (.ireturn, 1) := by decide +kernel
abbrev cX1_noList : ByteArray := prog_3_method_3_code
def yX1_noList : MethodName := ⟨RX1, "noList", "(I)Z"⟩
theorem dX1_noList_0 : decode cX1_noList 0 = .ok (.iload_n 1, 1) := by decide +kernel
theorem dX1_noList_1 : decode cX1_noList 1 = .ok (.ifCond .lt 11, 3) := by decide +kernel
theorem dX1_noList_4 : decode cX1_noList 4 = .ok (.iload_n 1, 1) := by decide +kernel
theorem dX1_noList_5 : decode cX1_noList 5 = .ok (.aload_n 0, 1) := by decide +kernel
theorem dX1_noList_6 : decode cX1_noList 6 = .ok (.getfield 19, 3) := by decide +kernel
theorem dX1_noList_9 : decode cX1_noList 9 = .ok (.if_icmp .lt 7, 3) := by decide +kernel
theorem dX1_noList_12 : decode cX1_noList 12 = .ok (.iconst 1, 1) := by decide +kernel
theorem dX1_noList_13 : decode cX1_noList 13 = .ok (.goto 4, 3) := by decide +kernel
theorem dX1_noList_16 : decode cX1_noList 16 = .ok (.iconst 0, 1) := by decide +kernel
theorem dX1_noList_17 : decode cX1_noList 17 = .ok (.ireturn, 1) := by decide +kernel
abbrev cX1_join : ByteArray := prog_3_method_6_code
def yX1_join : MethodName := ⟨RX1, "join", "(II)I"⟩
theorem dX1_join_0 : decode cX1_join 0 = .ok (.aload_n 0, 1) := by decide +kernel
theorem dX1_join_1 : decode cX1_join 1 = .ok (.iload_n 1, 1) := by decide +kernel
theorem dX1_join_2 : decode cX1_join 2 = .ok (.invokevirtual 27, 3) := by decide +kernel
theorem dX1_join_5 : decode cX1_join 5 = .ok (.ifCond .ne 16, 3) := by decide +kernel
theorem dX1_join_8 : decode cX1_join 8 = .ok (.aload_n 0, 1) := by decide +kernel
theorem dX1_join_9 : decode cX1_join 9 = .ok (.iload_n 2, 1) := by decide +kernel
theorem dX1_join_10 : decode cX1_join 10 = .ok (.invokevirtual 27, 3) := by decide +kernel
theorem dX1_join_13 : decode cX1_join 13 = .ok (.ifCond .ne 8, 3) := by decide +kernel
theorem dX1_join_16 : decode cX1_join 16 = .ok (.iload_n 1, 1) := by decide +kernel
theorem dX1_join_17 : decode cX1_join 17 = .ok (.iload_n 2, 1) := by decide +kernel
theorem dX1_join_18 : decode cX1_join 18 = .ok (.if_icmp .ne 5, 3) := by decide +kernel
theorem dX1_join_21 : decode cX1_join 21 = .ok (.iconst (-1), 1) := by decide +kernel
theorem dX1_join_22 : decode cX1_join 22 = .ok (.ireturn, 1) := by decide +kernel
theorem dX1_join_23 : decode cX1_join 23 = .ok (.aload_n 0, 1) := by decide +kernel
theorem dX1_join_24 : decode cX1_join 24 = .ok (.getfield 7, 3) := by decide +kernel
theorem dX1_join_27 : decode cX1_join 27 = .ok (.iload_n 1, 1) := by decide +kernel
theorem dX1_join_28 : decode cX1_join 28 = .ok (.iaload, 1) := by decide +kernel
theorem dX1_join_29 : decode cX1_join 29 = .ok (.aload_n 0, 1) := by decide +kernel
theorem dX1_join_30 : decode cX1_join 30 = .ok (.getfield 7, 3) := by decide +kernel
theorem dX1_join_33 : decode cX1_join 33 = .ok (.iload_n 2, 1) := by decide +kernel
theorem dX1_join_34 : decode cX1_join 34 = .ok (.iaload, 1) := by decide +kernel
theorem dX1_join_35 : decode cX1_join 35 = .ok (.iadd, 1) := by decide +kernel
theorem dX1_join_36 : decode cX1_join 36 = .ok (.istore_n 3, 1) := by decide +kernel
theorem dX1_join_37 : decode cX1_join 37 = .ok (.aload_n 0, 1) := by decide +kernel
theorem dX1_join_38 : decode cX1_join 38 = .ok (.getfield 7, 3) := by decide +kernel
theorem dX1_join_41 : decode cX1_join 41 = .ok (.iload_n 1, 1) := by decide +kernel
theorem dX1_join_42 : decode cX1_join 42 = .ok (.iload_n 3, 1) := by decide +kernel
theorem dX1_join_43 : decode cX1_join 43 = .ok (.sipush 999, 3) := by decide +kernel
theorem dX1_join_46 : decode cX1_join 46 = .ok (.if_icmp .le 9, 3) := by decide +kernel
theorem dX1_join_49 : decode cX1_join 49 = .ok (.sipush 999, 3) := by decide +kernel
theorem dX1_join_52 : decode cX1_join 52 = .ok (.goto 4, 3) := by decide +kernel
theorem dX1_join_55 : decode cX1_join 55 = .ok (.iload_n 3, 1) := by decide +kernel
theorem dX1_join_56 : decode cX1_join 56 = .ok (.iastore, 1) := by decide +kernel
theorem dX1_join_57 : decode cX1_join 57 = .ok (.aload_n 0, 1) := by decide +kernel
theorem dX1_join_58 : decode cX1_join 58 = .ok (.getfield 7, 3) := by decide +kernel
theorem dX1_join_61 : decode cX1_join 61 = .ok (.iload_n 2, 1) := by decide +kernel
theorem dX1_join_62 : decode cX1_join 62 = .ok (.iconst 0, 1) := by decide +kernel
theorem dX1_join_63 : decode cX1_join 63 = .ok (.iastore, 1) := by decide +kernel
theorem dX1_join_64 : decode cX1_join 64 = .ok (.aload_n 0, 1) := by decide +kernel
theorem dX1_join_65 : decode cX1_join 65 = .ok (.getfield 7, 3) := by decide +kernel
theorem dX1_join_68 : decode cX1_join 68 = .ok (.iload_n 1, 1) := by decide +kernel
theorem dX1_join_69 : decode cX1_join 69 = .ok (.iaload, 1) := by decide +kernel
theorem dX1_join_70 : decode cX1_join 70 = .ok (.ireturn, 1) := by decide +kernel
abbrev cX1_seats : ByteArray := prog_3_method_7_code
def yX1_seats : MethodName := ⟨RX1, "seats", "(I)I"⟩
theorem dX1_seats_0 : decode cX1_seats 0 = .ok (.iload_n 1, 1) := by decide +kernel
theorem dX1_seats_1 : decode cX1_seats 1 = .ok (.ifCond .lt 9, 3) := by decide +kernel
theorem dX1_seats_4 : decode cX1_seats 4 = .ok (.iload_n 1, 1) := by decide +kernel
theorem dX1_seats_5 : decode cX1_seats 5 = .ok (.bipush 30, 2) := by decide +kernel
theorem dX1_seats_7 : decode cX1_seats 7 = .ok (.if_icmp .le 5, 3) := by decide +kernel
theorem dX1_seats_10 : decode cX1_seats 10 = .ok (.iconst (-1), 1) := by decide +kernel
theorem dX1_seats_11 : decode cX1_seats 11 = .ok (.ireturn, 1) := by decide +kernel
theorem dX1_seats_12 : decode cX1_seats 12 = .ok (.aload_n 0, 1) := by decide +kernel
theorem dX1_seats_13 : decode cX1_seats 13 = .ok (.getfield 30, 3) := by decide +kernel
theorem dX1_seats_16 : decode cX1_seats 16 = .ok (.istore_n 2, 1) := by decide +kernel
theorem dX1_seats_17 : decode cX1_seats 17 = .ok (.aload_n 0, 1) := by decide +kernel
theorem dX1_seats_18 : decode cX1_seats 18 = .ok (.iload_n 1, 1) := by decide +kernel
theorem dX1_seats_19 : decode cX1_seats 19 = .ok (.putfield 30, 3) := by decide +kernel
theorem dX1_seats_22 : decode cX1_seats 22 = .ok (.iload_n 2, 1) := by decide +kernel
theorem dX1_seats_23 : decode cX1_seats 23 = .ok (.ireturn, 1) := by decide +kernel
abbrev cX1_bar : ByteArray := prog_3_method_8_code
def yX1_bar : MethodName := ⟨RX1, "bar", "(I)I"⟩
theorem dX1_bar_0 : decode cX1_bar 0 = .ok (.iload_n 1, 1) := by decide +kernel
theorem dX1_bar_1 : decode cX1_bar 1 = .ok (.ifCond .lt 9, 3) := by decide +kernel
theorem dX1_bar_4 : decode cX1_bar 4 = .ok (.iload_n 1, 1) := by decide +kernel
theorem dX1_bar_5 : decode cX1_bar 5 = .ok (.bipush 100, 2) := by decide +kernel
theorem dX1_bar_7 : decode cX1_bar 7 = .ok (.if_icmp .le 5, 3) := by decide +kernel
theorem dX1_bar_10 : decode cX1_bar 10 = .ok (.iconst (-1), 1) := by decide +kernel
theorem dX1_bar_11 : decode cX1_bar 11 = .ok (.ireturn, 1) := by decide +kernel
theorem dX1_bar_12 : decode cX1_bar 12 = .ok (.aload_n 0, 1) := by decide +kernel
theorem dX1_bar_13 : decode cX1_bar 13 = .ok (.invokevirtual 33, 3) := by decide +kernel
theorem dX1_bar_16 : decode cX1_bar 16 = .ok (.istore_n 2, 1) := by decide +kernel
theorem dX1_bar_17 : decode cX1_bar 17 = .ok (.iconst 0, 1) := by decide +kernel
theorem dX1_bar_18 : decode cX1_bar 18 = .ok (.istore_n 3, 1) := by decide +kernel
theorem dX1_bar_19 : decode cX1_bar 19 = .ok (.iconst 0, 1) := by decide +kernel
theorem dX1_bar_20 : decode cX1_bar 20 = .ok (.istore 4, 2) := by decide +kernel
theorem dX1_bar_22 : decode cX1_bar 22 = .ok (.iload 4, 2) := by decide +kernel
theorem dX1_bar_24 : decode cX1_bar 24 = .ok (.aload_n 0, 1) := by decide +kernel
theorem dX1_bar_25 : decode cX1_bar 25 = .ok (.getfield 19, 3) := by decide +kernel
theorem dX1_bar_28 : decode cX1_bar 28 = .ok (.if_icmp .ge 46, 3) := by decide +kernel
theorem dX1_bar_31 : decode cX1_bar 31 = .ok (.bipush 100, 2) := by decide +kernel
theorem dX1_bar_33 : decode cX1_bar 33 = .ok (.aload_n 0, 1) := by decide +kernel
theorem dX1_bar_34 : decode cX1_bar 34 = .ok (.getfield 7, 3) := by decide +kernel
theorem dX1_bar_37 : decode cX1_bar 37 = .ok (.iload 4, 2) := by decide +kernel
theorem dX1_bar_39 : decode cX1_bar 39 = .ok (.iaload, 1) := by decide +kernel
theorem dX1_bar_40 : decode cX1_bar 40 = .ok (.imul, 1) := by decide +kernel
theorem dX1_bar_41 : decode cX1_bar 41 = .ok (.iload_n 1, 1) := by decide +kernel
theorem dX1_bar_42 : decode cX1_bar 42 = .ok (.iload_n 2, 1) := by decide +kernel
theorem dX1_bar_43 : decode cX1_bar 43 = .ok (.imul, 1) := by decide +kernel
theorem dX1_bar_44 : decode cX1_bar 44 = .ok (.if_icmp .ge 11, 3) := by decide +kernel
theorem dX1_bar_47 : decode cX1_bar 47 = .ok (.aload_n 0, 1) := by decide +kernel
theorem dX1_bar_48 : decode cX1_bar 48 = .ok (.getfield 7, 3) := by decide +kernel
theorem dX1_bar_51 : decode cX1_bar 51 = .ok (.iload 4, 2) := by decide +kernel
theorem dX1_bar_53 : decode cX1_bar 53 = .ok (.iconst 0, 1) := by decide +kernel
theorem dX1_bar_54 : decode cX1_bar 54 = .ok (.iastore, 1) := by decide +kernel
theorem dX1_bar_55 : decode cX1_bar 55 = .ok (.aload_n 0, 1) := by decide +kernel
theorem dX1_bar_56 : decode cX1_bar 56 = .ok (.getfield 7, 3) := by decide +kernel
theorem dX1_bar_59 : decode cX1_bar 59 = .ok (.iload 4, 2) := by decide +kernel
theorem dX1_bar_61 : decode cX1_bar 61 = .ok (.iaload, 1) := by decide +kernel
theorem dX1_bar_62 : decode cX1_bar 62 = .ok (.ifCond .le 6, 3) := by decide +kernel
theorem dX1_bar_65 : decode cX1_bar 65 = .ok (.iinc 3 1, 3) := by decide +kernel
theorem dX1_bar_68 : decode cX1_bar 68 = .ok (.iinc 4 1, 3) := by decide +kernel
theorem dX1_bar_71 : decode cX1_bar 71 = .ok (.goto (-49), 3) := by decide +kernel
theorem dX1_bar_74 : decode cX1_bar 74 = .ok (.iload_n 3, 1) := by decide +kernel
theorem dX1_bar_75 : decode cX1_bar 75 = .ok (.ireturn, 1) := by decide +kernel
abbrev cX1_votes : ByteArray := prog_3_method_10_code
def yX1_votes : MethodName := ⟨RX1, "votes", "()I"⟩
theorem dX1_votes_0 : decode cX1_votes 0 = .ok (.iconst 0, 1) := by decide +kernel
theorem dX1_votes_1 : decode cX1_votes 1 = .ok (.istore_n 1, 1) := by decide +kernel
theorem dX1_votes_2 : decode cX1_votes 2 = .ok (.iconst 0, 1) := by decide +kernel
theorem dX1_votes_3 : decode cX1_votes 3 = .ok (.istore_n 2, 1) := by decide +kernel
theorem dX1_votes_4 : decode cX1_votes 4 = .ok (.iload_n 2, 1) := by decide +kernel
theorem dX1_votes_5 : decode cX1_votes 5 = .ok (.aload_n 0, 1) := by decide +kernel
theorem dX1_votes_6 : decode cX1_votes 6 = .ok (.getfield 19, 3) := by decide +kernel
theorem dX1_votes_9 : decode cX1_votes 9 = .ok (.if_icmp .ge 18, 3) := by decide +kernel
theorem dX1_votes_12 : decode cX1_votes 12 = .ok (.iload_n 1, 1) := by decide +kernel
theorem dX1_votes_13 : decode cX1_votes 13 = .ok (.aload_n 0, 1) := by decide +kernel
theorem dX1_votes_14 : decode cX1_votes 14 = .ok (.getfield 7, 3) := by decide +kernel
theorem dX1_votes_17 : decode cX1_votes 17 = .ok (.iload_n 2, 1) := by decide +kernel
theorem dX1_votes_18 : decode cX1_votes 18 = .ok (.iaload, 1) := by decide +kernel
theorem dX1_votes_19 : decode cX1_votes 19 = .ok (.iadd, 1) := by decide +kernel
theorem dX1_votes_20 : decode cX1_votes 20 = .ok (.istore_n 1, 1) := by decide +kernel
theorem dX1_votes_21 : decode cX1_votes 21 = .ok (.iinc 2 1, 3) := by decide +kernel
theorem dX1_votes_24 : decode cX1_votes 24 = .ok (.goto (-20), 3) := by decide +kernel
theorem dX1_votes_27 : decode cX1_votes 27 = .ok (.iload_n 1, 1) := by decide +kernel
theorem dX1_votes_28 : decode cX1_votes 28 = .ok (.ireturn, 1) := by decide +kernel
abbrev cX1_lists : ByteArray := prog_3_method_9_code
def yX1_lists : MethodName := ⟨RX1, "lists", "()I"⟩
theorem dX1_lists_0 : decode cX1_lists 0 = .ok (.aload_n 0, 1) := by decide +kernel
theorem dX1_lists_1 : decode cX1_lists 1 = .ok (.getfield 19, 3) := by decide +kernel
theorem dX1_lists_4 : decode cX1_lists 4 = .ok (.ireturn, 1) := by decide +kernel
abbrev cX1_share : ByteArray := prog_3_method_18_code
def yX1_share : MethodName := ⟨RX1, "share", "(II)I"⟩
theorem dX1_share_0 : decode cX1_share 0 = .ok (.aload_n 0, 1) := by decide +kernel
theorem dX1_share_1 : decode cX1_share 1 = .ok (.iload_n 1, 1) := by decide +kernel
theorem dX1_share_2 : decode cX1_share 2 = .ok (.invokevirtual 56, 3) := by decide +kernel
theorem dX1_share_5 : decode cX1_share 5 = .ok (.ifCond .ne 11, 3) := by decide +kernel
theorem dX1_share_8 : decode cX1_share 8 = .ok (.aload_n 0, 1) := by decide +kernel
theorem dX1_share_9 : decode cX1_share 9 = .ok (.iload_n 2, 1) := by decide +kernel
theorem dX1_share_10 : decode cX1_share 10 = .ok (.invokevirtual 27, 3) := by decide +kernel
theorem dX1_share_13 : decode cX1_share 13 = .ok (.ifCond .eq 5, 3) := by decide +kernel
theorem dX1_share_16 : decode cX1_share 16 = .ok (.iconst (-1), 1) := by decide +kernel
theorem dX1_share_17 : decode cX1_share 17 = .ok (.ireturn, 1) := by decide +kernel
theorem dX1_share_18 : decode cX1_share 18 = .ok (.aload_n 0, 1) := by decide +kernel
theorem dX1_share_19 : decode cX1_share 19 = .ok (.iload_n 1, 1) := by decide +kernel
theorem dX1_share_20 : decode cX1_share 20 = .ok (.aload_n 0, 1) := by decide +kernel
theorem dX1_share_21 : decode cX1_share 21 = .ok (.getfield 30, 3) := by decide +kernel
theorem dX1_share_24 : decode cX1_share 24 = .ok (.invokevirtual 59, 3) := by decide +kernel
theorem dX1_share_27 : decode cX1_share 27 = .ok (.aload_n 0, 1) := by decide +kernel
theorem dX1_share_28 : decode cX1_share 28 = .ok (.getfield 13, 3) := by decide +kernel
theorem dX1_share_31 : decode cX1_share 31 = .ok (.iload_n 2, 1) := by decide +kernel
theorem dX1_share_32 : decode cX1_share 32 = .ok (.iaload, 1) := by decide +kernel
theorem dX1_share_33 : decode cX1_share 33 = .ok (.ireturn, 1) := by decide +kernel
abbrev cX1_noRule : ByteArray := prog_3_method_17_code
def yX1_noRule : MethodName := ⟨RX1, "noRule", "(I)Z"⟩
theorem dX1_noRule_0 : decode cX1_noRule 0 = .ok (.iload_n 1, 1) := by decide +kernel
theorem dX1_noRule_1 : decode cX1_noRule 1 = .ok (.ifCond .lt 9, 3) := by decide +kernel
theorem dX1_noRule_4 : decode cX1_noRule 4 = .ok (.iload_n 1, 1) := by decide +kernel
theorem dX1_noRule_5 : decode cX1_noRule 5 = .ok (.bipush 6, 2) := by decide +kernel
theorem dX1_noRule_7 : decode cX1_noRule 7 = .ok (.if_icmp .le 7, 3) := by decide +kernel
theorem dX1_noRule_10 : decode cX1_noRule 10 = .ok (.iconst 1, 1) := by decide +kernel
theorem dX1_noRule_11 : decode cX1_noRule 11 = .ok (.goto 4, 3) := by decide +kernel
theorem dX1_noRule_14 : decode cX1_noRule 14 = .ok (.iconst 0, 1) := by decide +kernel
theorem dX1_noRule_15 : decode cX1_noRule 15 = .ok (.ireturn, 1) := by decide +kernel
abbrev cX1_give : ByteArray := prog_3_method_16_code
def yX1_give : MethodName := ⟨RX1, "give", "(II)V"⟩
theorem dX1_give_0 : decode cX1_give 0 = .ok (.iconst 0, 1) := by decide +kernel
theorem dX1_give_1 : decode cX1_give 1 = .ok (.istore_n 3, 1) := by decide +kernel
theorem dX1_give_2 : decode cX1_give 2 = .ok (.iload_n 3, 1) := by decide +kernel
theorem dX1_give_3 : decode cX1_give 3 = .ok (.bipush 6, 2) := by decide +kernel
theorem dX1_give_5 : decode cX1_give 5 = .ok (.if_icmp .ge 16, 3) := by decide +kernel
theorem dX1_give_8 : decode cX1_give 8 = .ok (.aload_n 0, 1) := by decide +kernel
theorem dX1_give_9 : decode cX1_give 9 = .ok (.getfield 13, 3) := by decide +kernel
theorem dX1_give_12 : decode cX1_give 12 = .ok (.iload_n 3, 1) := by decide +kernel
theorem dX1_give_13 : decode cX1_give 13 = .ok (.iconst 0, 1) := by decide +kernel
theorem dX1_give_14 : decode cX1_give 14 = .ok (.iastore, 1) := by decide +kernel
theorem dX1_give_15 : decode cX1_give 15 = .ok (.iinc 3 1, 3) := by decide +kernel
theorem dX1_give_18 : decode cX1_give 18 = .ok (.goto (-16), 3) := by decide +kernel
theorem dX1_give_21 : decode cX1_give 21 = .ok (.aload_n 0, 1) := by decide +kernel
theorem dX1_give_22 : decode cX1_give 22 = .ok (.invokevirtual 33, 3) := by decide +kernel
theorem dX1_give_25 : decode cX1_give 25 = .ok (.istore_n 3, 1) := by decide +kernel
theorem dX1_give_26 : decode cX1_give 26 = .ok (.iload_n 3, 1) := by decide +kernel
theorem dX1_give_27 : decode cX1_give 27 = .ok (.ifCond .eq 7, 3) := by decide +kernel
theorem dX1_give_30 : decode cX1_give 30 = .ok (.iload_n 2, 1) := by decide +kernel
theorem dX1_give_31 : decode cX1_give 31 = .ok (.ifCond .ne 4, 3) := by decide +kernel
theorem dX1_give_34 : decode cX1_give 34 = .ok (.return_, 1) := by decide +kernel
theorem dX1_give_35 : decode cX1_give 35 = .ok (.iload_n 1, 1) := by decide +kernel
theorem dX1_give_36 : decode cX1_give 36 = .ok (.iconst 5, 1) := by decide +kernel
theorem dX1_give_37 : decode cX1_give 37 = .ok (.if_icmp .ge 12, 3) := by decide +kernel
theorem dX1_give_40 : decode cX1_give 40 = .ok (.aload_n 0, 1) := by decide +kernel
theorem dX1_give_41 : decode cX1_give 41 = .ok (.iload_n 1, 1) := by decide +kernel
theorem dX1_give_42 : decode cX1_give 42 = .ok (.iload_n 2, 1) := by decide +kernel
theorem dX1_give_43 : decode cX1_give 43 = .ok (.invokevirtual 49, 3) := by decide +kernel
theorem dX1_give_46 : decode cX1_give 46 = .ok (.goto 9, 3) := by decide +kernel
theorem dX1_give_49 : decode cX1_give 49 = .ok (.aload_n 0, 1) := by decide +kernel
theorem dX1_give_50 : decode cX1_give 50 = .ok (.iload_n 1, 1) := by decide +kernel
theorem dX1_give_51 : decode cX1_give 51 = .ok (.iload_n 2, 1) := by decide +kernel
theorem dX1_give_52 : decode cX1_give 52 = .ok (.invokevirtual 53, 3) := by decide +kernel
theorem dX1_give_55 : decode cX1_give 55 = .ok (.return_, 1) := by decide +kernel
abbrev cX1_giveByQuotients : ByteArray := prog_3_method_14_code
def yX1_giveByQuotients : MethodName := ⟨RX1, "giveByQuotients", "(II)V"⟩
theorem dX1_giveByQuotients_0 : decode cX1_giveByQuotients 0 = .ok (.iconst 0, 1) := by decide +kernel
theorem dX1_giveByQuotients_1 : decode cX1_giveByQuotients 1 = .ok (.istore_n 3, 1) := by decide +kernel
theorem dX1_giveByQuotients_2 : decode cX1_giveByQuotients 2 = .ok (.iload_n 3, 1) := by decide +kernel
theorem dX1_giveByQuotients_3 : decode cX1_giveByQuotients 3 = .ok (.iload_n 2, 1) := by decide +kernel
theorem dX1_giveByQuotients_4 : decode cX1_giveByQuotients 4 = .ok (.if_icmp .ge 77, 3) := by decide +kernel
theorem dX1_giveByQuotients_7 : decode cX1_giveByQuotients 7 = .ok (.iconst (-1), 1) := by decide +kernel
theorem dX1_giveByQuotients_8 : decode cX1_giveByQuotients 8 = .ok (.istore 4, 2) := by decide +kernel
theorem dX1_giveByQuotients_10 : decode cX1_giveByQuotients 10 = .ok (.iconst 0, 1) := by decide +kernel
theorem dX1_giveByQuotients_11 : decode cX1_giveByQuotients 11 = .ok (.istore 5, 2) := by decide +kernel
theorem dX1_giveByQuotients_13 : decode cX1_giveByQuotients 13 = .ok (.iload 5, 2) := by decide +kernel
theorem dX1_giveByQuotients_15 : decode cX1_giveByQuotients 15 = .ok (.aload_n 0, 1) := by decide +kernel
theorem dX1_giveByQuotients_16 : decode cX1_giveByQuotients 16 = .ok (.getfield 19, 3) := by decide +kernel
theorem dX1_giveByQuotients_19 : decode cX1_giveByQuotients 19 = .ok (.if_icmp .ge 40, 3) := by decide +kernel
theorem dX1_giveByQuotients_22 : decode cX1_giveByQuotients 22 = .ok (.aload_n 0, 1) := by decide +kernel
theorem dX1_giveByQuotients_23 : decode cX1_giveByQuotients 23 = .ok (.getfield 7, 3) := by decide +kernel
theorem dX1_giveByQuotients_26 : decode cX1_giveByQuotients 26 = .ok (.iload 5, 2) := by decide +kernel
theorem dX1_giveByQuotients_28 : decode cX1_giveByQuotients 28 = .ok (.iaload, 1) := by decide +kernel
theorem dX1_giveByQuotients_29 : decode cX1_giveByQuotients 29 = .ok (.ifCond .le 24, 3) := by decide +kernel
theorem dX1_giveByQuotients_32 : decode cX1_giveByQuotients 32 = .ok (.iload 4, 2) := by decide +kernel
theorem dX1_giveByQuotients_34 : decode cX1_giveByQuotients 34 = .ok (.ifCond .lt 15, 3) := by decide +kernel
theorem dX1_giveByQuotients_37 : decode cX1_giveByQuotients 37 = .ok (.aload_n 0, 1) := by decide +kernel
theorem dX1_giveByQuotients_38 : decode cX1_giveByQuotients 38 = .ok (.iload_n 1, 1) := by decide +kernel
theorem dX1_giveByQuotients_39 : decode cX1_giveByQuotients 39 = .ok (.iload 5, 2) := by decide +kernel
theorem dX1_giveByQuotients_41 : decode cX1_giveByQuotients 41 = .ok (.iload 4, 2) := by decide +kernel
theorem dX1_giveByQuotients_43 : decode cX1_giveByQuotients 43 = .ok (.invokevirtual 45, 3) := by decide +kernel
theorem dX1_giveByQuotients_46 : decode cX1_giveByQuotients 46 = .ok (.ifCond .eq 7, 3) := by decide +kernel
theorem dX1_giveByQuotients_49 : decode cX1_giveByQuotients 49 = .ok (.iload 5, 2) := by decide +kernel
theorem dX1_giveByQuotients_51 : decode cX1_giveByQuotients 51 = .ok (.istore 4, 2) := by decide +kernel
theorem dX1_giveByQuotients_53 : decode cX1_giveByQuotients 53 = .ok (.iinc 5 1, 3) := by decide +kernel
theorem dX1_giveByQuotients_56 : decode cX1_giveByQuotients 56 = .ok (.goto (-43), 3) := by decide +kernel
theorem dX1_giveByQuotients_59 : decode cX1_giveByQuotients 59 = .ok (.iload 4, 2) := by decide +kernel
theorem dX1_giveByQuotients_61 : decode cX1_giveByQuotients 61 = .ok (.ifCond .lt 14, 3) := by decide +kernel
theorem dX1_giveByQuotients_64 : decode cX1_giveByQuotients 64 = .ok (.aload_n 0, 1) := by decide +kernel
theorem dX1_giveByQuotients_65 : decode cX1_giveByQuotients 65 = .ok (.getfield 13, 3) := by decide +kernel
theorem dX1_giveByQuotients_68 : decode cX1_giveByQuotients 68 = .ok (.iload 4, 2) := by decide +kernel
theorem dX1_giveByQuotients_70 : decode cX1_giveByQuotients 70 = .ok (.dup2, 1) := by decide +kernel
theorem dX1_giveByQuotients_71 : decode cX1_giveByQuotients 71 = .ok (.iaload, 1) := by decide +kernel
theorem dX1_giveByQuotients_72 : decode cX1_giveByQuotients 72 = .ok (.iconst 1, 1) := by decide +kernel
theorem dX1_giveByQuotients_73 : decode cX1_giveByQuotients 73 = .ok (.iadd, 1) := by decide +kernel
theorem dX1_giveByQuotients_74 : decode cX1_giveByQuotients 74 = .ok (.iastore, 1) := by decide +kernel
theorem dX1_giveByQuotients_75 : decode cX1_giveByQuotients 75 = .ok (.iinc 3 1, 3) := by decide +kernel
theorem dX1_giveByQuotients_78 : decode cX1_giveByQuotients 78 = .ok (.goto (-76), 3) := by decide +kernel
theorem dX1_giveByQuotients_81 : decode cX1_giveByQuotients 81 = .ok (.return_, 1) := by decide +kernel
abbrev cX1_isGreater : ByteArray := prog_3_method_13_code
def yX1_isGreater : MethodName := ⟨RX1, "isGreater", "(III)Z"⟩
theorem dX1_isGreater_0 : decode cX1_isGreater 0 = .ok (.aload_n 0, 1) := by decide +kernel
theorem dX1_isGreater_1 : decode cX1_isGreater 1 = .ok (.iload_n 1, 1) := by decide +kernel
theorem dX1_isGreater_2 : decode cX1_isGreater 2 = .ok (.aload_n 0, 1) := by decide +kernel
theorem dX1_isGreater_3 : decode cX1_isGreater 3 = .ok (.getfield 13, 3) := by decide +kernel
theorem dX1_isGreater_6 : decode cX1_isGreater 6 = .ok (.iload_n 2, 1) := by decide +kernel
theorem dX1_isGreater_7 : decode cX1_isGreater 7 = .ok (.iaload, 1) := by decide +kernel
theorem dX1_isGreater_8 : decode cX1_isGreater 8 = .ok (.invokevirtual 38, 3) := by decide +kernel
theorem dX1_isGreater_11 : decode cX1_isGreater 11 = .ok (.lstore 4, 2) := by decide +kernel
theorem dX1_isGreater_13 : decode cX1_isGreater 13 = .ok (.aload_n 0, 1) := by decide +kernel
theorem dX1_isGreater_14 : decode cX1_isGreater 14 = .ok (.iload_n 1, 1) := by decide +kernel
theorem dX1_isGreater_15 : decode cX1_isGreater 15 = .ok (.aload_n 0, 1) := by decide +kernel
theorem dX1_isGreater_16 : decode cX1_isGreater 16 = .ok (.getfield 13, 3) := by decide +kernel
theorem dX1_isGreater_19 : decode cX1_isGreater 19 = .ok (.iload_n 3, 1) := by decide +kernel
theorem dX1_isGreater_20 : decode cX1_isGreater 20 = .ok (.iaload, 1) := by decide +kernel
theorem dX1_isGreater_21 : decode cX1_isGreater 21 = .ok (.invokevirtual 38, 3) := by decide +kernel
theorem dX1_isGreater_24 : decode cX1_isGreater 24 = .ok (.lstore 6, 2) := by decide +kernel
theorem dX1_isGreater_26 : decode cX1_isGreater 26 = .ok (.lload 4, 2) := by decide +kernel
theorem dX1_isGreater_28 : decode cX1_isGreater 28 = .ok (.lconst 0, 1) := by decide +kernel
theorem dX1_isGreater_29 : decode cX1_isGreater 29 = .ok (.lcmp, 1) := by decide +kernel
theorem dX1_isGreater_30 : decode cX1_isGreater 30 = .ok (.ifCond .ne 31, 3) := by decide +kernel
theorem dX1_isGreater_33 : decode cX1_isGreater 33 = .ok (.lload 6, 2) := by decide +kernel
theorem dX1_isGreater_35 : decode cX1_isGreater 35 = .ok (.lconst 0, 1) := by decide +kernel
theorem dX1_isGreater_36 : decode cX1_isGreater 36 = .ok (.lcmp, 1) := by decide +kernel
theorem dX1_isGreater_37 : decode cX1_isGreater 37 = .ok (.ifCond .ne 24, 3) := by decide +kernel
theorem dX1_isGreater_40 : decode cX1_isGreater 40 = .ok (.aload_n 0, 1) := by decide +kernel
theorem dX1_isGreater_41 : decode cX1_isGreater 41 = .ok (.getfield 7, 3) := by decide +kernel
theorem dX1_isGreater_44 : decode cX1_isGreater 44 = .ok (.iload_n 2, 1) := by decide +kernel
theorem dX1_isGreater_45 : decode cX1_isGreater 45 = .ok (.iaload, 1) := by decide +kernel
theorem dX1_isGreater_46 : decode cX1_isGreater 46 = .ok (.aload_n 0, 1) := by decide +kernel
theorem dX1_isGreater_47 : decode cX1_isGreater 47 = .ok (.getfield 7, 3) := by decide +kernel
theorem dX1_isGreater_50 : decode cX1_isGreater 50 = .ok (.iload_n 3, 1) := by decide +kernel
theorem dX1_isGreater_51 : decode cX1_isGreater 51 = .ok (.iaload, 1) := by decide +kernel
theorem dX1_isGreater_52 : decode cX1_isGreater 52 = .ok (.if_icmp .le 7, 3) := by decide +kernel
theorem dX1_isGreater_55 : decode cX1_isGreater 55 = .ok (.iconst 1, 1) := by decide +kernel
theorem dX1_isGreater_56 : decode cX1_isGreater 56 = .ok (.goto 4, 3) := by decide +kernel
theorem dX1_isGreater_59 : decode cX1_isGreater 59 = .ok (.iconst 0, 1) := by decide +kernel
theorem dX1_isGreater_60 : decode cX1_isGreater 60 = .ok (.ireturn, 1) := by decide +kernel
theorem dX1_isGreater_61 : decode cX1_isGreater 61 = .ok (.aload_n 0, 1) := by decide +kernel
theorem dX1_isGreater_62 : decode cX1_isGreater 62 = .ok (.iload_n 1, 1) := by decide +kernel
theorem dX1_isGreater_63 : decode cX1_isGreater 63 = .ok (.iload_n 2, 1) := by decide +kernel
theorem dX1_isGreater_64 : decode cX1_isGreater 64 = .ok (.invokevirtual 42, 3) := by decide +kernel
theorem dX1_isGreater_67 : decode cX1_isGreater 67 = .ok (.lload 6, 2) := by decide +kernel
theorem dX1_isGreater_69 : decode cX1_isGreater 69 = .ok (.lmul, 1) := by decide +kernel
theorem dX1_isGreater_70 : decode cX1_isGreater 70 = .ok (.aload_n 0, 1) := by decide +kernel
theorem dX1_isGreater_71 : decode cX1_isGreater 71 = .ok (.iload_n 1, 1) := by decide +kernel
theorem dX1_isGreater_72 : decode cX1_isGreater 72 = .ok (.iload_n 3, 1) := by decide +kernel
theorem dX1_isGreater_73 : decode cX1_isGreater 73 = .ok (.invokevirtual 42, 3) := by decide +kernel
theorem dX1_isGreater_76 : decode cX1_isGreater 76 = .ok (.lload 4, 2) := by decide +kernel
theorem dX1_isGreater_78 : decode cX1_isGreater 78 = .ok (.lmul, 1) := by decide +kernel
theorem dX1_isGreater_79 : decode cX1_isGreater 79 = .ok (.lcmp, 1) := by decide +kernel
theorem dX1_isGreater_80 : decode cX1_isGreater 80 = .ok (.ifCond .le 7, 3) := by decide +kernel
theorem dX1_isGreater_83 : decode cX1_isGreater 83 = .ok (.iconst 1, 1) := by decide +kernel
theorem dX1_isGreater_84 : decode cX1_isGreater 84 = .ok (.goto 4, 3) := by decide +kernel
theorem dX1_isGreater_87 : decode cX1_isGreater 87 = .ok (.iconst 0, 1) := by decide +kernel
theorem dX1_isGreater_88 : decode cX1_isGreater 88 = .ok (.ireturn, 1) := by decide +kernel
abbrev cX1_divisor : ByteArray := prog_3_method_11_code
def yX1_divisor : MethodName := ⟨RX1, "divisor", "(II)J"⟩
theorem dX1_divisor_0 : decode cX1_divisor 0 = .ok (.iload_n 1, 1) := by decide +kernel
theorem dX1_divisor_1 : decode cX1_divisor 1 = .ok (.ifCond .ne 8, 3) := by decide +kernel
theorem dX1_divisor_4 : decode cX1_divisor 4 = .ok (.iload_n 2, 1) := by decide +kernel
theorem dX1_divisor_5 : decode cX1_divisor 5 = .ok (.iconst 1, 1) := by decide +kernel
theorem dX1_divisor_6 : decode cX1_divisor 6 = .ok (.iadd, 1) := by decide +kernel
theorem dX1_divisor_7 : decode cX1_divisor 7 = .ok (.i2l, 1) := by decide +kernel
theorem dX1_divisor_8 : decode cX1_divisor 8 = .ok (.lreturn, 1) := by decide +kernel
theorem dX1_divisor_9 : decode cX1_divisor 9 = .ok (.iload_n 1, 1) := by decide +kernel
theorem dX1_divisor_10 : decode cX1_divisor 10 = .ok (.iconst 1, 1) := by decide +kernel
theorem dX1_divisor_11 : decode cX1_divisor 11 = .ok (.if_icmp .ne 10, 3) := by decide +kernel
theorem dX1_divisor_14 : decode cX1_divisor 14 = .ok (.iconst 2, 1) := by decide +kernel
theorem dX1_divisor_15 : decode cX1_divisor 15 = .ok (.iload_n 2, 1) := by decide +kernel
theorem dX1_divisor_16 : decode cX1_divisor 16 = .ok (.imul, 1) := by decide +kernel
theorem dX1_divisor_17 : decode cX1_divisor 17 = .ok (.iconst 1, 1) := by decide +kernel
theorem dX1_divisor_18 : decode cX1_divisor 18 = .ok (.iadd, 1) := by decide +kernel
theorem dX1_divisor_19 : decode cX1_divisor 19 = .ok (.i2l, 1) := by decide +kernel
theorem dX1_divisor_20 : decode cX1_divisor 20 = .ok (.lreturn, 1) := by decide +kernel
theorem dX1_divisor_21 : decode cX1_divisor 21 = .ok (.iload_n 1, 1) := by decide +kernel
theorem dX1_divisor_22 : decode cX1_divisor 22 = .ok (.iconst 2, 1) := by decide +kernel
theorem dX1_divisor_23 : decode cX1_divisor 23 = .ok (.if_icmp .ne 21, 3) := by decide +kernel
theorem dX1_divisor_26 : decode cX1_divisor 26 = .ok (.iload_n 2, 1) := by decide +kernel
theorem dX1_divisor_27 : decode cX1_divisor 27 = .ok (.ifCond .ne 9, 3) := by decide +kernel
theorem dX1_divisor_30 : decode cX1_divisor 30 = .ok (.ldc2_w 36, 3) := by decide +kernel
theorem dX1_divisor_33 : decode cX1_divisor 33 = .ok (.goto 10, 3) := by decide +kernel
theorem dX1_divisor_36 : decode cX1_divisor 36 = .ok (.bipush 10, 2) := by decide +kernel
theorem dX1_divisor_38 : decode cX1_divisor 38 = .ok (.iload_n 2, 1) := by decide +kernel
theorem dX1_divisor_39 : decode cX1_divisor 39 = .ok (.imul, 1) := by decide +kernel
theorem dX1_divisor_40 : decode cX1_divisor 40 = .ok (.iconst 5, 1) := by decide +kernel
theorem dX1_divisor_41 : decode cX1_divisor 41 = .ok (.iadd, 1) := by decide +kernel
theorem dX1_divisor_42 : decode cX1_divisor 42 = .ok (.i2l, 1) := by decide +kernel
theorem dX1_divisor_43 : decode cX1_divisor 43 = .ok (.lreturn, 1) := by decide +kernel
theorem dX1_divisor_44 : decode cX1_divisor 44 = .ok (.iload_n 1, 1) := by decide +kernel
theorem dX1_divisor_45 : decode cX1_divisor 45 = .ok (.iconst 3, 1) := by decide +kernel
theorem dX1_divisor_46 : decode cX1_divisor 46 = .ok (.if_icmp .ne 12, 3) := by decide +kernel
theorem dX1_divisor_49 : decode cX1_divisor 49 = .ok (.iload_n 2, 1) := by decide +kernel
theorem dX1_divisor_50 : decode cX1_divisor 50 = .ok (.iload_n 2, 1) := by decide +kernel
theorem dX1_divisor_51 : decode cX1_divisor 51 = .ok (.iconst 1, 1) := by decide +kernel
theorem dX1_divisor_52 : decode cX1_divisor 52 = .ok (.iadd, 1) := by decide +kernel
theorem dX1_divisor_53 : decode cX1_divisor 53 = .ok (.imul, 1) := by decide +kernel
theorem dX1_divisor_54 : decode cX1_divisor 54 = .ok (.i2l, 1) := by decide +kernel
theorem dX1_divisor_55 : decode cX1_divisor 55 = .ok (.goto 5, 3) := by decide +kernel
theorem dX1_divisor_58 : decode cX1_divisor 58 = .ok (.iload_n 2, 1) := by decide +kernel
theorem dX1_divisor_59 : decode cX1_divisor 59 = .ok (.i2l, 1) := by decide +kernel
theorem dX1_divisor_60 : decode cX1_divisor 60 = .ok (.lreturn, 1) := by decide +kernel
abbrev cX1_worth : ByteArray := prog_3_method_12_code
def yX1_worth : MethodName := ⟨RX1, "worth", "(II)J"⟩
theorem dX1_worth_0 : decode cX1_worth 0 = .ok (.iload_n 1, 1) := by decide +kernel
theorem dX1_worth_1 : decode cX1_worth 1 = .ok (.iconst 3, 1) := by decide +kernel
theorem dX1_worth_2 : decode cX1_worth 2 = .ok (.if_icmp .ne 30, 3) := by decide +kernel
theorem dX1_worth_5 : decode cX1_worth 5 = .ok (.aload_n 0, 1) := by decide +kernel
theorem dX1_worth_6 : decode cX1_worth 6 = .ok (.getfield 13, 3) := by decide +kernel
theorem dX1_worth_9 : decode cX1_worth 9 = .ok (.iload_n 2, 1) := by decide +kernel
theorem dX1_worth_10 : decode cX1_worth 10 = .ok (.iaload, 1) := by decide +kernel
theorem dX1_worth_11 : decode cX1_worth 11 = .ok (.ifCond .le 21, 3) := by decide +kernel
theorem dX1_worth_14 : decode cX1_worth 14 = .ok (.aload_n 0, 1) := by decide +kernel
theorem dX1_worth_15 : decode cX1_worth 15 = .ok (.getfield 7, 3) := by decide +kernel
theorem dX1_worth_18 : decode cX1_worth 18 = .ok (.iload_n 2, 1) := by decide +kernel
theorem dX1_worth_19 : decode cX1_worth 19 = .ok (.iaload, 1) := by decide +kernel
theorem dX1_worth_20 : decode cX1_worth 20 = .ok (.i2l, 1) := by decide +kernel
theorem dX1_worth_21 : decode cX1_worth 21 = .ok (.aload_n 0, 1) := by decide +kernel
theorem dX1_worth_22 : decode cX1_worth 22 = .ok (.getfield 7, 3) := by decide +kernel
theorem dX1_worth_25 : decode cX1_worth 25 = .ok (.iload_n 2, 1) := by decide +kernel
theorem dX1_worth_26 : decode cX1_worth 26 = .ok (.iaload, 1) := by decide +kernel
theorem dX1_worth_27 : decode cX1_worth 27 = .ok (.i2l, 1) := by decide +kernel
theorem dX1_worth_28 : decode cX1_worth 28 = .ok (.lmul, 1) := by decide +kernel
theorem dX1_worth_29 : decode cX1_worth 29 = .ok (.goto 10, 3) := by decide +kernel
theorem dX1_worth_32 : decode cX1_worth 32 = .ok (.aload_n 0, 1) := by decide +kernel
theorem dX1_worth_33 : decode cX1_worth 33 = .ok (.getfield 7, 3) := by decide +kernel
theorem dX1_worth_36 : decode cX1_worth 36 = .ok (.iload_n 2, 1) := by decide +kernel
theorem dX1_worth_37 : decode cX1_worth 37 = .ok (.iaload, 1) := by decide +kernel
theorem dX1_worth_38 : decode cX1_worth 38 = .ok (.i2l, 1) := by decide +kernel
theorem dX1_worth_39 : decode cX1_worth 39 = .ok (.lreturn, 1) := by decide +kernel
abbrev cX1_giveByRests : ByteArray := prog_3_method_15_code
def yX1_giveByRests : MethodName := ⟨RX1, "giveByRests", "(II)V"⟩
theorem dX1_giveByRests_0 : decode cX1_giveByRests 0 = .ok (.aload_n 0, 1) := by decide +kernel
theorem dX1_giveByRests_1 : decode cX1_giveByRests 1 = .ok (.invokevirtual 33, 3) := by decide +kernel
theorem dX1_giveByRests_4 : decode cX1_giveByRests 4 = .ok (.istore_n 3, 1) := by decide +kernel
theorem dX1_giveByRests_5 : decode cX1_giveByRests 5 = .ok (.iload_n 2, 1) := by decide +kernel
theorem dX1_giveByRests_6 : decode cX1_giveByRests 6 = .ok (.istore 4, 2) := by decide +kernel
theorem dX1_giveByRests_8 : decode cX1_giveByRests 8 = .ok (.iload_n 1, 1) := by decide +kernel
theorem dX1_giveByRests_9 : decode cX1_giveByRests 9 = .ok (.iconst 5, 1) := by decide +kernel
theorem dX1_giveByRests_10 : decode cX1_giveByRests 10 = .ok (.if_icmp .ne 7, 3) := by decide +kernel
theorem dX1_giveByRests_13 : decode cX1_giveByRests 13 = .ok (.iload_n 3, 1) := by decide +kernel
theorem dX1_giveByRests_14 : decode cX1_giveByRests 14 = .ok (.goto 10, 3) := by decide +kernel
theorem dX1_giveByRests_17 : decode cX1_giveByRests 17 = .ok (.iload_n 3, 1) := by decide +kernel
theorem dX1_giveByRests_18 : decode cX1_giveByRests 18 = .ok (.iload_n 2, 1) := by decide +kernel
theorem dX1_giveByRests_19 : decode cX1_giveByRests 19 = .ok (.iconst 1, 1) := by decide +kernel
theorem dX1_giveByRests_20 : decode cX1_giveByRests 20 = .ok (.iadd, 1) := by decide +kernel
theorem dX1_giveByRests_21 : decode cX1_giveByRests 21 = .ok (.idiv, 1) := by decide +kernel
theorem dX1_giveByRests_22 : decode cX1_giveByRests 22 = .ok (.iconst 1, 1) := by decide +kernel
theorem dX1_giveByRests_23 : decode cX1_giveByRests 23 = .ok (.iadd, 1) := by decide +kernel
theorem dX1_giveByRests_24 : decode cX1_giveByRests 24 = .ok (.istore 5, 2) := by decide +kernel
theorem dX1_giveByRests_26 : decode cX1_giveByRests 26 = .ok (.iload_n 1, 1) := by decide +kernel
theorem dX1_giveByRests_27 : decode cX1_giveByRests 27 = .ok (.iconst 5, 1) := by decide +kernel
theorem dX1_giveByRests_28 : decode cX1_giveByRests 28 = .ok (.if_icmp .ne 7, 3) := by decide +kernel
theorem dX1_giveByRests_31 : decode cX1_giveByRests 31 = .ok (.iload_n 2, 1) := by decide +kernel
theorem dX1_giveByRests_32 : decode cX1_giveByRests 32 = .ok (.goto 4, 3) := by decide +kernel
theorem dX1_giveByRests_35 : decode cX1_giveByRests 35 = .ok (.iconst 1, 1) := by decide +kernel
theorem dX1_giveByRests_36 : decode cX1_giveByRests 36 = .ok (.istore 6, 2) := by decide +kernel
theorem dX1_giveByRests_38 : decode cX1_giveByRests 38 = .ok (.iconst 0, 1) := by decide +kernel
theorem dX1_giveByRests_39 : decode cX1_giveByRests 39 = .ok (.istore 7, 2) := by decide +kernel
theorem dX1_giveByRests_41 : decode cX1_giveByRests 41 = .ok (.iload 7, 2) := by decide +kernel
theorem dX1_giveByRests_43 : decode cX1_giveByRests 43 = .ok (.aload_n 0, 1) := by decide +kernel
theorem dX1_giveByRests_44 : decode cX1_giveByRests 44 = .ok (.getfield 19, 3) := by decide +kernel
theorem dX1_giveByRests_47 : decode cX1_giveByRests 47 = .ok (.if_icmp .ge 41, 3) := by decide +kernel
theorem dX1_giveByRests_50 : decode cX1_giveByRests 50 = .ok (.aload_n 0, 1) := by decide +kernel
theorem dX1_giveByRests_51 : decode cX1_giveByRests 51 = .ok (.getfield 13, 3) := by decide +kernel
theorem dX1_giveByRests_54 : decode cX1_giveByRests 54 = .ok (.iload 7, 2) := by decide +kernel
theorem dX1_giveByRests_56 : decode cX1_giveByRests 56 = .ok (.aload_n 0, 1) := by decide +kernel
theorem dX1_giveByRests_57 : decode cX1_giveByRests 57 = .ok (.getfield 7, 3) := by decide +kernel
theorem dX1_giveByRests_60 : decode cX1_giveByRests 60 = .ok (.iload 7, 2) := by decide +kernel
theorem dX1_giveByRests_62 : decode cX1_giveByRests 62 = .ok (.iaload, 1) := by decide +kernel
theorem dX1_giveByRests_63 : decode cX1_giveByRests 63 = .ok (.iload 6, 2) := by decide +kernel
theorem dX1_giveByRests_65 : decode cX1_giveByRests 65 = .ok (.imul, 1) := by decide +kernel
theorem dX1_giveByRests_66 : decode cX1_giveByRests 66 = .ok (.iload 5, 2) := by decide +kernel
theorem dX1_giveByRests_68 : decode cX1_giveByRests 68 = .ok (.idiv, 1) := by decide +kernel
theorem dX1_giveByRests_69 : decode cX1_giveByRests 69 = .ok (.iastore, 1) := by decide +kernel
theorem dX1_giveByRests_70 : decode cX1_giveByRests 70 = .ok (.iload 4, 2) := by decide +kernel
theorem dX1_giveByRests_72 : decode cX1_giveByRests 72 = .ok (.aload_n 0, 1) := by decide +kernel
theorem dX1_giveByRests_73 : decode cX1_giveByRests 73 = .ok (.getfield 13, 3) := by decide +kernel
theorem dX1_giveByRests_76 : decode cX1_giveByRests 76 = .ok (.iload 7, 2) := by decide +kernel
theorem dX1_giveByRests_78 : decode cX1_giveByRests 78 = .ok (.iaload, 1) := by decide +kernel
theorem dX1_giveByRests_79 : decode cX1_giveByRests 79 = .ok (.isub, 1) := by decide +kernel
theorem dX1_giveByRests_80 : decode cX1_giveByRests 80 = .ok (.istore 4, 2) := by decide +kernel
theorem dX1_giveByRests_82 : decode cX1_giveByRests 82 = .ok (.iinc 7 1, 3) := by decide +kernel
theorem dX1_giveByRests_85 : decode cX1_giveByRests 85 = .ok (.goto (-44), 3) := by decide +kernel
theorem dX1_giveByRests_88 : decode cX1_giveByRests 88 = .ok (.iconst 0, 1) := by decide +kernel
theorem dX1_giveByRests_89 : decode cX1_giveByRests 89 = .ok (.istore 7, 2) := by decide +kernel
theorem dX1_giveByRests_91 : decode cX1_giveByRests 91 = .ok (.iload 4, 2) := by decide +kernel
theorem dX1_giveByRests_93 : decode cX1_giveByRests 93 = .ok (.ifCond .le 131, 3) := by decide +kernel
theorem dX1_giveByRests_96 : decode cX1_giveByRests 96 = .ok (.iconst (-1), 1) := by decide +kernel
theorem dX1_giveByRests_97 : decode cX1_giveByRests 97 = .ok (.istore 8, 2) := by decide +kernel
theorem dX1_giveByRests_99 : decode cX1_giveByRests 99 = .ok (.iconst 0, 1) := by decide +kernel
theorem dX1_giveByRests_100 : decode cX1_giveByRests 100 = .ok (.istore 9, 2) := by decide +kernel
theorem dX1_giveByRests_102 : decode cX1_giveByRests 102 = .ok (.iload 9, 2) := by decide +kernel
theorem dX1_giveByRests_104 : decode cX1_giveByRests 104 = .ok (.aload_n 0, 1) := by decide +kernel
theorem dX1_giveByRests_105 : decode cX1_giveByRests 105 = .ok (.getfield 19, 3) := by decide +kernel
theorem dX1_giveByRests_108 : decode cX1_giveByRests 108 = .ok (.if_icmp .ge 79, 3) := by decide +kernel
theorem dX1_giveByRests_111 : decode cX1_giveByRests 111 = .ok (.aload_n 0, 1) := by decide +kernel
theorem dX1_giveByRests_112 : decode cX1_giveByRests 112 = .ok (.getfield 7, 3) := by decide +kernel
theorem dX1_giveByRests_115 : decode cX1_giveByRests 115 = .ok (.iload 9, 2) := by decide +kernel
theorem dX1_giveByRests_117 : decode cX1_giveByRests 117 = .ok (.iaload, 1) := by decide +kernel
theorem dX1_giveByRests_118 : decode cX1_giveByRests 118 = .ok (.ifCond .le 17, 3) := by decide +kernel
theorem dX1_giveByRests_121 : decode cX1_giveByRests 121 = .ok (.iload 7, 2) := by decide +kernel
theorem dX1_giveByRests_123 : decode cX1_giveByRests 123 = .ok (.iload 9, 2) := by decide +kernel
theorem dX1_giveByRests_125 : decode cX1_giveByRests 125 = .ok (.ishr, 1) := by decide +kernel
theorem dX1_giveByRests_126 : decode cX1_giveByRests 126 = .ok (.iconst 1, 1) := by decide +kernel
theorem dX1_giveByRests_127 : decode cX1_giveByRests 127 = .ok (.iand, 1) := by decide +kernel
theorem dX1_giveByRests_128 : decode cX1_giveByRests 128 = .ok (.ifCond .ne 7, 3) := by decide +kernel
theorem dX1_giveByRests_131 : decode cX1_giveByRests 131 = .ok (.iconst 1, 1) := by decide +kernel
theorem dX1_giveByRests_132 : decode cX1_giveByRests 132 = .ok (.goto 4, 3) := by decide +kernel
theorem dX1_giveByRests_135 : decode cX1_giveByRests 135 = .ok (.iconst 0, 1) := by decide +kernel
theorem dX1_giveByRests_136 : decode cX1_giveByRests 136 = .ok (.istore 10, 2) := by decide +kernel
theorem dX1_giveByRests_138 : decode cX1_giveByRests 138 = .ok (.iload 10, 2) := by decide +kernel
theorem dX1_giveByRests_140 : decode cX1_giveByRests 140 = .ok (.ifCond .eq 41, 3) := by decide +kernel
theorem dX1_giveByRests_143 : decode cX1_giveByRests 143 = .ok (.iload 8, 2) := by decide +kernel
theorem dX1_giveByRests_145 : decode cX1_giveByRests 145 = .ok (.ifCond .lt 32, 3) := by decide +kernel
theorem dX1_giveByRests_148 : decode cX1_giveByRests 148 = .ok (.aload_n 0, 1) := by decide +kernel
theorem dX1_giveByRests_149 : decode cX1_giveByRests 149 = .ok (.getfield 7, 3) := by decide +kernel
theorem dX1_giveByRests_152 : decode cX1_giveByRests 152 = .ok (.iload 9, 2) := by decide +kernel
theorem dX1_giveByRests_154 : decode cX1_giveByRests 154 = .ok (.iaload, 1) := by decide +kernel
theorem dX1_giveByRests_155 : decode cX1_giveByRests 155 = .ok (.iload 6, 2) := by decide +kernel
theorem dX1_giveByRests_157 : decode cX1_giveByRests 157 = .ok (.imul, 1) := by decide +kernel
theorem dX1_giveByRests_158 : decode cX1_giveByRests 158 = .ok (.iload 5, 2) := by decide +kernel
theorem dX1_giveByRests_160 : decode cX1_giveByRests 160 = .ok (.irem, 1) := by decide +kernel
theorem dX1_giveByRests_161 : decode cX1_giveByRests 161 = .ok (.aload_n 0, 1) := by decide +kernel
theorem dX1_giveByRests_162 : decode cX1_giveByRests 162 = .ok (.getfield 7, 3) := by decide +kernel
theorem dX1_giveByRests_165 : decode cX1_giveByRests 165 = .ok (.iload 8, 2) := by decide +kernel
theorem dX1_giveByRests_167 : decode cX1_giveByRests 167 = .ok (.iaload, 1) := by decide +kernel
theorem dX1_giveByRests_168 : decode cX1_giveByRests 168 = .ok (.iload 6, 2) := by decide +kernel
theorem dX1_giveByRests_170 : decode cX1_giveByRests 170 = .ok (.imul, 1) := by decide +kernel
theorem dX1_giveByRests_171 : decode cX1_giveByRests 171 = .ok (.iload 5, 2) := by decide +kernel
theorem dX1_giveByRests_173 : decode cX1_giveByRests 173 = .ok (.irem, 1) := by decide +kernel
theorem dX1_giveByRests_174 : decode cX1_giveByRests 174 = .ok (.if_icmp .le 7, 3) := by decide +kernel
theorem dX1_giveByRests_177 : decode cX1_giveByRests 177 = .ok (.iload 9, 2) := by decide +kernel
theorem dX1_giveByRests_179 : decode cX1_giveByRests 179 = .ok (.istore 8, 2) := by decide +kernel
theorem dX1_giveByRests_181 : decode cX1_giveByRests 181 = .ok (.iinc 9 1, 3) := by decide +kernel
theorem dX1_giveByRests_184 : decode cX1_giveByRests 184 = .ok (.goto (-82), 3) := by decide +kernel
theorem dX1_giveByRests_187 : decode cX1_giveByRests 187 = .ok (.iload 8, 2) := by decide +kernel
theorem dX1_giveByRests_189 : decode cX1_giveByRests 189 = .ok (.ifCond .ge 9, 3) := by decide +kernel
theorem dX1_giveByRests_192 : decode cX1_giveByRests 192 = .ok (.iconst 0, 1) := by decide +kernel
theorem dX1_giveByRests_193 : decode cX1_giveByRests 193 = .ok (.istore 7, 2) := by decide +kernel
theorem dX1_giveByRests_195 : decode cX1_giveByRests 195 = .ok (.goto 26, 3) := by decide +kernel
theorem dX1_giveByRests_198 : decode cX1_giveByRests 198 = .ok (.iload 7, 2) := by decide +kernel
theorem dX1_giveByRests_200 : decode cX1_giveByRests 200 = .ok (.iconst 1, 1) := by decide +kernel
theorem dX1_giveByRests_201 : decode cX1_giveByRests 201 = .ok (.iload 8, 2) := by decide +kernel
theorem dX1_giveByRests_203 : decode cX1_giveByRests 203 = .ok (.ishl, 1) := by decide +kernel
theorem dX1_giveByRests_204 : decode cX1_giveByRests 204 = .ok (.ior, 1) := by decide +kernel
theorem dX1_giveByRests_205 : decode cX1_giveByRests 205 = .ok (.istore 7, 2) := by decide +kernel
theorem dX1_giveByRests_207 : decode cX1_giveByRests 207 = .ok (.aload_n 0, 1) := by decide +kernel
theorem dX1_giveByRests_208 : decode cX1_giveByRests 208 = .ok (.getfield 13, 3) := by decide +kernel
theorem dX1_giveByRests_211 : decode cX1_giveByRests 211 = .ok (.iload 8, 2) := by decide +kernel
theorem dX1_giveByRests_213 : decode cX1_giveByRests 213 = .ok (.dup2, 1) := by decide +kernel
theorem dX1_giveByRests_214 : decode cX1_giveByRests 214 = .ok (.iaload, 1) := by decide +kernel
theorem dX1_giveByRests_215 : decode cX1_giveByRests 215 = .ok (.iconst 1, 1) := by decide +kernel
theorem dX1_giveByRests_216 : decode cX1_giveByRests 216 = .ok (.iadd, 1) := by decide +kernel
theorem dX1_giveByRests_217 : decode cX1_giveByRests 217 = .ok (.iastore, 1) := by decide +kernel
theorem dX1_giveByRests_218 : decode cX1_giveByRests 218 = .ok (.iinc 4 (-1), 3) := by decide +kernel
theorem dX1_giveByRests_221 : decode cX1_giveByRests 221 = .ok (.goto (-130), 3) := by decide +kernel
theorem dX1_giveByRests_224 : decode cX1_giveByRests 224 = .ok (.return_, 1) := by decide +kernel
abbrev cX1_next : ByteArray := prog_3_method_20_code
def yX1_next : MethodName := ⟨RX1, "next", "(I)I"⟩
theorem dX1_next_0 : decode cX1_next 0 = .ok (.aload_n 0, 1) := by decide +kernel
theorem dX1_next_1 : decode cX1_next 1 = .ok (.iload_n 1, 1) := by decide +kernel
theorem dX1_next_2 : decode cX1_next 2 = .ok (.invokevirtual 56, 3) := by decide +kernel
theorem dX1_next_5 : decode cX1_next 5 = .ok (.ifCond .ne 8, 3) := by decide +kernel
theorem dX1_next_8 : decode cX1_next 8 = .ok (.iload_n 1, 1) := by decide +kernel
theorem dX1_next_9 : decode cX1_next 9 = .ok (.iconst 4, 1) := by decide +kernel
theorem dX1_next_10 : decode cX1_next 10 = .ok (.if_icmp .le 5, 3) := by decide +kernel
theorem dX1_next_13 : decode cX1_next 13 = .ok (.iconst (-1), 1) := by decide +kernel
theorem dX1_next_14 : decode cX1_next 14 = .ok (.ireturn, 1) := by decide +kernel
theorem dX1_next_15 : decode cX1_next 15 = .ok (.aload_n 0, 1) := by decide +kernel
theorem dX1_next_16 : decode cX1_next 16 = .ok (.iload_n 1, 1) := by decide +kernel
theorem dX1_next_17 : decode cX1_next 17 = .ok (.aload_n 0, 1) := by decide +kernel
theorem dX1_next_18 : decode cX1_next 18 = .ok (.getfield 30, 3) := by decide +kernel
theorem dX1_next_21 : decode cX1_next 21 = .ok (.invokevirtual 59, 3) := by decide +kernel
theorem dX1_next_24 : decode cX1_next 24 = .ok (.aload_n 0, 1) := by decide +kernel
theorem dX1_next_25 : decode cX1_next 25 = .ok (.invokevirtual 62, 3) := by decide +kernel
theorem dX1_next_28 : decode cX1_next 28 = .ok (.aload_n 0, 1) := by decide +kernel
theorem dX1_next_29 : decode cX1_next 29 = .ok (.iload_n 1, 1) := by decide +kernel
theorem dX1_next_30 : decode cX1_next 30 = .ok (.aload_n 0, 1) := by decide +kernel
theorem dX1_next_31 : decode cX1_next 31 = .ok (.getfield 30, 3) := by decide +kernel
theorem dX1_next_34 : decode cX1_next 34 = .ok (.iconst 1, 1) := by decide +kernel
theorem dX1_next_35 : decode cX1_next 35 = .ok (.iadd, 1) := by decide +kernel
theorem dX1_next_36 : decode cX1_next 36 = .ok (.invokevirtual 59, 3) := by decide +kernel
theorem dX1_next_39 : decode cX1_next 39 = .ok (.iconst 0, 1) := by decide +kernel
theorem dX1_next_40 : decode cX1_next 40 = .ok (.istore_n 2, 1) := by decide +kernel
theorem dX1_next_41 : decode cX1_next 41 = .ok (.iload_n 2, 1) := by decide +kernel
theorem dX1_next_42 : decode cX1_next 42 = .ok (.aload_n 0, 1) := by decide +kernel
theorem dX1_next_43 : decode cX1_next 43 = .ok (.getfield 19, 3) := by decide +kernel
theorem dX1_next_46 : decode cX1_next 46 = .ok (.if_icmp .ge 26, 3) := by decide +kernel
theorem dX1_next_49 : decode cX1_next 49 = .ok (.aload_n 0, 1) := by decide +kernel
theorem dX1_next_50 : decode cX1_next 50 = .ok (.getfield 13, 3) := by decide +kernel
theorem dX1_next_53 : decode cX1_next 53 = .ok (.iload_n 2, 1) := by decide +kernel
theorem dX1_next_54 : decode cX1_next 54 = .ok (.iaload, 1) := by decide +kernel
theorem dX1_next_55 : decode cX1_next 55 = .ok (.aload_n 0, 1) := by decide +kernel
end
section
set_option maxRecDepth 100000
theorem dX1_next_56 : decode cX1_next 56 = .ok (.getfield 16, 3) := by decide +kernel
theorem dX1_next_59 : decode cX1_next 59 = .ok (.iload_n 2, 1) := by decide +kernel
theorem dX1_next_60 : decode cX1_next 60 = .ok (.iaload, 1) := by decide +kernel
theorem dX1_next_61 : decode cX1_next 61 = .ok (.if_icmp .le 5, 3) := by decide +kernel
theorem dX1_next_64 : decode cX1_next 64 = .ok (.iload_n 2, 1) := by decide +kernel
theorem dX1_next_65 : decode cX1_next 65 = .ok (.ireturn, 1) := by decide +kernel
theorem dX1_next_66 : decode cX1_next 66 = .ok (.iinc 2 1, 3) := by decide +kernel
theorem dX1_next_69 : decode cX1_next 69 = .ok (.goto (-28), 3) := by decide +kernel
theorem dX1_next_72 : decode cX1_next 72 = .ok (.bipush (-4), 2) := by decide +kernel
theorem dX1_next_74 : decode cX1_next 74 = .ok (.ireturn, 1) := by decide +kernel
abbrev cX1_keep : ByteArray := prog_3_method_19_code
def yX1_keep : MethodName := ⟨RX1, "keep", "()V"⟩
theorem dX1_keep_0 : decode cX1_keep 0 = .ok (.iconst 0, 1) := by decide +kernel
theorem dX1_keep_1 : decode cX1_keep 1 = .ok (.istore_n 1, 1) := by decide +kernel
theorem dX1_keep_2 : decode cX1_keep 2 = .ok (.iload_n 1, 1) := by decide +kernel
theorem dX1_keep_3 : decode cX1_keep 3 = .ok (.bipush 6, 2) := by decide +kernel
theorem dX1_keep_5 : decode cX1_keep 5 = .ok (.if_icmp .ge 21, 3) := by decide +kernel
theorem dX1_keep_8 : decode cX1_keep 8 = .ok (.aload_n 0, 1) := by decide +kernel
theorem dX1_keep_9 : decode cX1_keep 9 = .ok (.getfield 16, 3) := by decide +kernel
theorem dX1_keep_12 : decode cX1_keep 12 = .ok (.iload_n 1, 1) := by decide +kernel
theorem dX1_keep_13 : decode cX1_keep 13 = .ok (.aload_n 0, 1) := by decide +kernel
theorem dX1_keep_14 : decode cX1_keep 14 = .ok (.getfield 13, 3) := by decide +kernel
theorem dX1_keep_17 : decode cX1_keep 17 = .ok (.iload_n 1, 1) := by decide +kernel
theorem dX1_keep_18 : decode cX1_keep 18 = .ok (.iaload, 1) := by decide +kernel
theorem dX1_keep_19 : decode cX1_keep 19 = .ok (.iastore, 1) := by decide +kernel
theorem dX1_keep_20 : decode cX1_keep 20 = .ok (.iinc 1 1, 3) := by decide +kernel
theorem dX1_keep_23 : decode cX1_keep 23 = .ok (.goto (-21), 3) := by decide +kernel
theorem dX1_keep_26 : decode cX1_keep 26 = .ok (.return_, 1) := by decide +kernel
abbrev cX1_missing : ByteArray := prog_3_method_22_code
def yX1_missing : MethodName := ⟨RX1, "missing", "(II)I"⟩
theorem dX1_missing_0 : decode cX1_missing 0 = .ok (.aload_n 0, 1) := by decide +kernel
theorem dX1_missing_1 : decode cX1_missing 1 = .ok (.iload_n 1, 1) := by decide +kernel
theorem dX1_missing_2 : decode cX1_missing 2 = .ok (.invokevirtual 56, 3) := by decide +kernel
theorem dX1_missing_5 : decode cX1_missing 5 = .ok (.ifCond .ne 16, 3) := by decide +kernel
theorem dX1_missing_8 : decode cX1_missing 8 = .ok (.iload_n 1, 1) := by decide +kernel
theorem dX1_missing_9 : decode cX1_missing 9 = .ok (.iconst 4, 1) := by decide +kernel
theorem dX1_missing_10 : decode cX1_missing 10 = .ok (.if_icmp .gt 11, 3) := by decide +kernel
theorem dX1_missing_13 : decode cX1_missing 13 = .ok (.aload_n 0, 1) := by decide +kernel
theorem dX1_missing_14 : decode cX1_missing 14 = .ok (.iload_n 2, 1) := by decide +kernel
theorem dX1_missing_15 : decode cX1_missing 15 = .ok (.invokevirtual 27, 3) := by decide +kernel
theorem dX1_missing_18 : decode cX1_missing 18 = .ok (.ifCond .eq 5, 3) := by decide +kernel
theorem dX1_missing_21 : decode cX1_missing 21 = .ok (.iconst (-1), 1) := by decide +kernel
theorem dX1_missing_22 : decode cX1_missing 22 = .ok (.ireturn, 1) := by decide +kernel
theorem dX1_missing_23 : decode cX1_missing 23 = .ok (.aload_n 0, 1) := by decide +kernel
theorem dX1_missing_24 : decode cX1_missing 24 = .ok (.iload_n 1, 1) := by decide +kernel
theorem dX1_missing_25 : decode cX1_missing 25 = .ok (.iload_n 2, 1) := by decide +kernel
theorem dX1_missing_26 : decode cX1_missing 26 = .ok (.aload_n 0, 1) := by decide +kernel
theorem dX1_missing_27 : decode cX1_missing 27 = .ok (.getfield 7, 3) := by decide +kernel
theorem dX1_missing_30 : decode cX1_missing 30 = .ok (.iload_n 2, 1) := by decide +kernel
theorem dX1_missing_31 : decode cX1_missing 31 = .ok (.iaload, 1) := by decide +kernel
theorem dX1_missing_32 : decode cX1_missing 32 = .ok (.invokevirtual 65, 3) := by decide +kernel
theorem dX1_missing_35 : decode cX1_missing 35 = .ok (.istore_n 3, 1) := by decide +kernel
theorem dX1_missing_36 : decode cX1_missing 36 = .ok (.iload_n 3, 1) := by decide +kernel
theorem dX1_missing_37 : decode cX1_missing 37 = .ok (.aload_n 0, 1) := by decide +kernel
theorem dX1_missing_38 : decode cX1_missing 38 = .ok (.getfield 30, 3) := by decide +kernel
theorem dX1_missing_41 : decode cX1_missing 41 = .ok (.if_icmp .ne 6, 3) := by decide +kernel
theorem dX1_missing_44 : decode cX1_missing 44 = .ok (.bipush (-4), 2) := by decide +kernel
theorem dX1_missing_46 : decode cX1_missing 46 = .ok (.ireturn, 1) := by decide +kernel
theorem dX1_missing_47 : decode cX1_missing 47 = .ok (.iconst 1, 1) := by decide +kernel
theorem dX1_missing_48 : decode cX1_missing 48 = .ok (.istore 4, 2) := by decide +kernel
theorem dX1_missing_50 : decode cX1_missing 50 = .ok (.iload 4, 2) := by decide +kernel
theorem dX1_missing_52 : decode cX1_missing 52 = .ok (.sipush 2000, 3) := by decide +kernel
theorem dX1_missing_55 : decode cX1_missing 55 = .ok (.if_icmp .gt 35, 3) := by decide +kernel
theorem dX1_missing_58 : decode cX1_missing 58 = .ok (.aload_n 0, 1) := by decide +kernel
theorem dX1_missing_59 : decode cX1_missing 59 = .ok (.iload_n 1, 1) := by decide +kernel
theorem dX1_missing_60 : decode cX1_missing 60 = .ok (.iload_n 2, 1) := by decide +kernel
theorem dX1_missing_61 : decode cX1_missing 61 = .ok (.aload_n 0, 1) := by decide +kernel
theorem dX1_missing_62 : decode cX1_missing 62 = .ok (.getfield 7, 3) := by decide +kernel
theorem dX1_missing_65 : decode cX1_missing 65 = .ok (.iload_n 2, 1) := by decide +kernel
theorem dX1_missing_66 : decode cX1_missing 66 = .ok (.iaload, 1) := by decide +kernel
theorem dX1_missing_67 : decode cX1_missing 67 = .ok (.iload 4, 2) := by decide +kernel
theorem dX1_missing_69 : decode cX1_missing 69 = .ok (.iadd, 1) := by decide +kernel
theorem dX1_missing_70 : decode cX1_missing 70 = .ok (.invokevirtual 65, 3) := by decide +kernel
theorem dX1_missing_73 : decode cX1_missing 73 = .ok (.istore 5, 2) := by decide +kernel
theorem dX1_missing_75 : decode cX1_missing 75 = .ok (.iload 5, 2) := by decide +kernel
theorem dX1_missing_77 : decode cX1_missing 77 = .ok (.iload_n 3, 1) := by decide +kernel
theorem dX1_missing_78 : decode cX1_missing 78 = .ok (.if_icmp .le 6, 3) := by decide +kernel
theorem dX1_missing_81 : decode cX1_missing 81 = .ok (.iload 4, 2) := by decide +kernel
theorem dX1_missing_83 : decode cX1_missing 83 = .ok (.ireturn, 1) := by decide +kernel
theorem dX1_missing_84 : decode cX1_missing 84 = .ok (.iinc 4 1, 3) := by decide +kernel
theorem dX1_missing_87 : decode cX1_missing 87 = .ok (.goto (-37), 3) := by decide +kernel
theorem dX1_missing_90 : decode cX1_missing 90 = .ok (.bipush (-4), 2) := by decide +kernel
theorem dX1_missing_92 : decode cX1_missing 92 = .ok (.ireturn, 1) := by decide +kernel
abbrev cX1_shareWith : ByteArray := prog_3_method_21_code
def yX1_shareWith : MethodName := ⟨RX1, "shareWith", "(III)I"⟩
theorem dX1_shareWith_0 : decode cX1_shareWith 0 = .ok (.aload_n 0, 1) := by decide +kernel
theorem dX1_shareWith_1 : decode cX1_shareWith 1 = .ok (.getfield 7, 3) := by decide +kernel
theorem dX1_shareWith_4 : decode cX1_shareWith 4 = .ok (.iload_n 2, 1) := by decide +kernel
theorem dX1_shareWith_5 : decode cX1_shareWith 5 = .ok (.iaload, 1) := by decide +kernel
theorem dX1_shareWith_6 : decode cX1_shareWith 6 = .ok (.istore 4, 2) := by decide +kernel
theorem dX1_shareWith_8 : decode cX1_shareWith 8 = .ok (.aload_n 0, 1) := by decide +kernel
theorem dX1_shareWith_9 : decode cX1_shareWith 9 = .ok (.getfield 7, 3) := by decide +kernel
theorem dX1_shareWith_12 : decode cX1_shareWith 12 = .ok (.iload_n 2, 1) := by decide +kernel
theorem dX1_shareWith_13 : decode cX1_shareWith 13 = .ok (.iload_n 3, 1) := by decide +kernel
theorem dX1_shareWith_14 : decode cX1_shareWith 14 = .ok (.iastore, 1) := by decide +kernel
theorem dX1_shareWith_15 : decode cX1_shareWith 15 = .ok (.aload_n 0, 1) := by decide +kernel
theorem dX1_shareWith_16 : decode cX1_shareWith 16 = .ok (.iload_n 1, 1) := by decide +kernel
theorem dX1_shareWith_17 : decode cX1_shareWith 17 = .ok (.aload_n 0, 1) := by decide +kernel
theorem dX1_shareWith_18 : decode cX1_shareWith 18 = .ok (.getfield 30, 3) := by decide +kernel
theorem dX1_shareWith_21 : decode cX1_shareWith 21 = .ok (.invokevirtual 59, 3) := by decide +kernel
theorem dX1_shareWith_24 : decode cX1_shareWith 24 = .ok (.aload_n 0, 1) := by decide +kernel
theorem dX1_shareWith_25 : decode cX1_shareWith 25 = .ok (.getfield 7, 3) := by decide +kernel
theorem dX1_shareWith_28 : decode cX1_shareWith 28 = .ok (.iload_n 2, 1) := by decide +kernel
theorem dX1_shareWith_29 : decode cX1_shareWith 29 = .ok (.iload 4, 2) := by decide +kernel
theorem dX1_shareWith_31 : decode cX1_shareWith 31 = .ok (.iastore, 1) := by decide +kernel
theorem dX1_shareWith_32 : decode cX1_shareWith 32 = .ok (.aload_n 0, 1) := by decide +kernel
theorem dX1_shareWith_33 : decode cX1_shareWith 33 = .ok (.getfield 13, 3) := by decide +kernel
theorem dX1_shareWith_36 : decode cX1_shareWith 36 = .ok (.iload_n 2, 1) := by decide +kernel
theorem dX1_shareWith_37 : decode cX1_shareWith 37 = .ok (.iaload, 1) := by decide +kernel
theorem dX1_shareWith_38 : decode cX1_shareWith 38 = .ok (.ireturn, 1) := by decide +kernel
abbrev cX1_spare : ByteArray := prog_3_method_23_code
def yX1_spare : MethodName := ⟨RX1, "spare", "(II)I"⟩
theorem dX1_spare_0 : decode cX1_spare 0 = .ok (.aload_n 0, 1) := by decide +kernel
theorem dX1_spare_1 : decode cX1_spare 1 = .ok (.iload_n 1, 1) := by decide +kernel
theorem dX1_spare_2 : decode cX1_spare 2 = .ok (.invokevirtual 56, 3) := by decide +kernel
theorem dX1_spare_5 : decode cX1_spare 5 = .ok (.ifCond .ne 16, 3) := by decide +kernel
theorem dX1_spare_8 : decode cX1_spare 8 = .ok (.iload_n 1, 1) := by decide +kernel
theorem dX1_spare_9 : decode cX1_spare 9 = .ok (.iconst 4, 1) := by decide +kernel
theorem dX1_spare_10 : decode cX1_spare 10 = .ok (.if_icmp .gt 11, 3) := by decide +kernel
theorem dX1_spare_13 : decode cX1_spare 13 = .ok (.aload_n 0, 1) := by decide +kernel
theorem dX1_spare_14 : decode cX1_spare 14 = .ok (.iload_n 2, 1) := by decide +kernel
theorem dX1_spare_15 : decode cX1_spare 15 = .ok (.invokevirtual 27, 3) := by decide +kernel
theorem dX1_spare_18 : decode cX1_spare 18 = .ok (.ifCond .eq 5, 3) := by decide +kernel
theorem dX1_spare_21 : decode cX1_spare 21 = .ok (.iconst (-1), 1) := by decide +kernel
theorem dX1_spare_22 : decode cX1_spare 22 = .ok (.ireturn, 1) := by decide +kernel
theorem dX1_spare_23 : decode cX1_spare 23 = .ok (.aload_n 0, 1) := by decide +kernel
theorem dX1_spare_24 : decode cX1_spare 24 = .ok (.iload_n 1, 1) := by decide +kernel
theorem dX1_spare_25 : decode cX1_spare 25 = .ok (.iload_n 2, 1) := by decide +kernel
theorem dX1_spare_26 : decode cX1_spare 26 = .ok (.aload_n 0, 1) := by decide +kernel
theorem dX1_spare_27 : decode cX1_spare 27 = .ok (.getfield 7, 3) := by decide +kernel
theorem dX1_spare_30 : decode cX1_spare 30 = .ok (.iload_n 2, 1) := by decide +kernel
theorem dX1_spare_31 : decode cX1_spare 31 = .ok (.iaload, 1) := by decide +kernel
theorem dX1_spare_32 : decode cX1_spare 32 = .ok (.invokevirtual 65, 3) := by decide +kernel
theorem dX1_spare_35 : decode cX1_spare 35 = .ok (.istore_n 3, 1) := by decide +kernel
theorem dX1_spare_36 : decode cX1_spare 36 = .ok (.aload_n 0, 1) := by decide +kernel
theorem dX1_spare_37 : decode cX1_spare 37 = .ok (.getfield 7, 3) := by decide +kernel
theorem dX1_spare_40 : decode cX1_spare 40 = .ok (.iload_n 2, 1) := by decide +kernel
theorem dX1_spare_41 : decode cX1_spare 41 = .ok (.iaload, 1) := by decide +kernel
theorem dX1_spare_42 : decode cX1_spare 42 = .ok (.istore 4, 2) := by decide +kernel
theorem dX1_spare_44 : decode cX1_spare 44 = .ok (.aload_n 0, 1) := by decide +kernel
theorem dX1_spare_45 : decode cX1_spare 45 = .ok (.iload_n 1, 1) := by decide +kernel
theorem dX1_spare_46 : decode cX1_spare 46 = .ok (.iload_n 2, 1) := by decide +kernel
theorem dX1_spare_47 : decode cX1_spare 47 = .ok (.iconst 0, 1) := by decide +kernel
theorem dX1_spare_48 : decode cX1_spare 48 = .ok (.invokevirtual 65, 3) := by decide +kernel
theorem dX1_spare_51 : decode cX1_spare 51 = .ok (.istore 5, 2) := by decide +kernel
theorem dX1_spare_53 : decode cX1_spare 53 = .ok (.iload 5, 2) := by decide +kernel
theorem dX1_spare_55 : decode cX1_spare 55 = .ok (.iload_n 3, 1) := by decide +kernel
theorem dX1_spare_56 : decode cX1_spare 56 = .ok (.if_icmp .eq 26, 3) := by decide +kernel
theorem dX1_spare_59 : decode cX1_spare 59 = .ok (.iinc 4 (-1), 3) := by decide +kernel
theorem dX1_spare_62 : decode cX1_spare 62 = .ok (.aload_n 0, 1) := by decide +kernel
theorem dX1_spare_63 : decode cX1_spare 63 = .ok (.iload_n 1, 1) := by decide +kernel
theorem dX1_spare_64 : decode cX1_spare 64 = .ok (.iload_n 2, 1) := by decide +kernel
theorem dX1_spare_65 : decode cX1_spare 65 = .ok (.aload_n 0, 1) := by decide +kernel
theorem dX1_spare_66 : decode cX1_spare 66 = .ok (.getfield 7, 3) := by decide +kernel
theorem dX1_spare_69 : decode cX1_spare 69 = .ok (.iload_n 2, 1) := by decide +kernel
theorem dX1_spare_70 : decode cX1_spare 70 = .ok (.iaload, 1) := by decide +kernel
theorem dX1_spare_71 : decode cX1_spare 71 = .ok (.iload 4, 2) := by decide +kernel
theorem dX1_spare_73 : decode cX1_spare 73 = .ok (.isub, 1) := by decide +kernel
theorem dX1_spare_74 : decode cX1_spare 74 = .ok (.invokevirtual 65, 3) := by decide +kernel
theorem dX1_spare_77 : decode cX1_spare 77 = .ok (.istore 5, 2) := by decide +kernel
theorem dX1_spare_79 : decode cX1_spare 79 = .ok (.goto (-26), 3) := by decide +kernel
theorem dX1_spare_82 : decode cX1_spare 82 = .ok (.iload 4, 2) := by decide +kernel
theorem dX1_spare_84 : decode cX1_spare 84 = .ok (.ireturn, 1) := by decide +kernel
abbrev cX1_fall : ByteArray := prog_3_method_24_code
def yX1_fall : MethodName := ⟨RX1, "fall", "(I)I"⟩
theorem dX1_fall_0 : decode cX1_fall 0 = .ok (.aload_n 0, 1) := by decide +kernel
theorem dX1_fall_1 : decode cX1_fall 1 = .ok (.iload_n 1, 1) := by decide +kernel
theorem dX1_fall_2 : decode cX1_fall 2 = .ok (.invokevirtual 56, 3) := by decide +kernel
theorem dX1_fall_5 : decode cX1_fall 5 = .ok (.ifCond .eq 5, 3) := by decide +kernel
theorem dX1_fall_8 : decode cX1_fall 8 = .ok (.iconst (-1), 1) := by decide +kernel
theorem dX1_fall_9 : decode cX1_fall 9 = .ok (.ireturn, 1) := by decide +kernel
theorem dX1_fall_10 : decode cX1_fall 10 = .ok (.aload_n 0, 1) := by decide +kernel
theorem dX1_fall_11 : decode cX1_fall 11 = .ok (.getfield 30, 3) := by decide +kernel
theorem dX1_fall_14 : decode cX1_fall 14 = .ok (.istore_n 2, 1) := by decide +kernel
theorem dX1_fall_15 : decode cX1_fall 15 = .ok (.iload_n 2, 1) := by decide +kernel
theorem dX1_fall_16 : decode cX1_fall 16 = .ok (.bipush 29, 2) := by decide +kernel
theorem dX1_fall_18 : decode cX1_fall 18 = .ok (.if_icmp .gt 60, 3) := by decide +kernel
theorem dX1_fall_21 : decode cX1_fall 21 = .ok (.aload_n 0, 1) := by decide +kernel
theorem dX1_fall_22 : decode cX1_fall 22 = .ok (.iload_n 1, 1) := by decide +kernel
theorem dX1_fall_23 : decode cX1_fall 23 = .ok (.iload_n 2, 1) := by decide +kernel
theorem dX1_fall_24 : decode cX1_fall 24 = .ok (.invokevirtual 59, 3) := by decide +kernel
theorem dX1_fall_27 : decode cX1_fall 27 = .ok (.aload_n 0, 1) := by decide +kernel
theorem dX1_fall_28 : decode cX1_fall 28 = .ok (.invokevirtual 62, 3) := by decide +kernel
theorem dX1_fall_31 : decode cX1_fall 31 = .ok (.aload_n 0, 1) := by decide +kernel
theorem dX1_fall_32 : decode cX1_fall 32 = .ok (.iload_n 1, 1) := by decide +kernel
theorem dX1_fall_33 : decode cX1_fall 33 = .ok (.iload_n 2, 1) := by decide +kernel
theorem dX1_fall_34 : decode cX1_fall 34 = .ok (.iconst 1, 1) := by decide +kernel
theorem dX1_fall_35 : decode cX1_fall 35 = .ok (.iadd, 1) := by decide +kernel
theorem dX1_fall_36 : decode cX1_fall 36 = .ok (.invokevirtual 59, 3) := by decide +kernel
theorem dX1_fall_39 : decode cX1_fall 39 = .ok (.iconst 0, 1) := by decide +kernel
theorem dX1_fall_40 : decode cX1_fall 40 = .ok (.istore_n 3, 1) := by decide +kernel
theorem dX1_fall_41 : decode cX1_fall 41 = .ok (.iload_n 3, 1) := by decide +kernel
theorem dX1_fall_42 : decode cX1_fall 42 = .ok (.aload_n 0, 1) := by decide +kernel
theorem dX1_fall_43 : decode cX1_fall 43 = .ok (.getfield 19, 3) := by decide +kernel
theorem dX1_fall_46 : decode cX1_fall 46 = .ok (.if_icmp .ge 26, 3) := by decide +kernel
theorem dX1_fall_49 : decode cX1_fall 49 = .ok (.aload_n 0, 1) := by decide +kernel
theorem dX1_fall_50 : decode cX1_fall 50 = .ok (.getfield 13, 3) := by decide +kernel
theorem dX1_fall_53 : decode cX1_fall 53 = .ok (.iload_n 3, 1) := by decide +kernel
theorem dX1_fall_54 : decode cX1_fall 54 = .ok (.iaload, 1) := by decide +kernel
theorem dX1_fall_55 : decode cX1_fall 55 = .ok (.aload_n 0, 1) := by decide +kernel
theorem dX1_fall_56 : decode cX1_fall 56 = .ok (.getfield 16, 3) := by decide +kernel
theorem dX1_fall_59 : decode cX1_fall 59 = .ok (.iload_n 3, 1) := by decide +kernel
theorem dX1_fall_60 : decode cX1_fall 60 = .ok (.iaload, 1) := by decide +kernel
theorem dX1_fall_61 : decode cX1_fall 61 = .ok (.if_icmp .ge 5, 3) := by decide +kernel
theorem dX1_fall_64 : decode cX1_fall 64 = .ok (.iload_n 2, 1) := by decide +kernel
theorem dX1_fall_65 : decode cX1_fall 65 = .ok (.ireturn, 1) := by decide +kernel
theorem dX1_fall_66 : decode cX1_fall 66 = .ok (.iinc 3 1, 3) := by decide +kernel
theorem dX1_fall_69 : decode cX1_fall 69 = .ok (.goto (-28), 3) := by decide +kernel
theorem dX1_fall_72 : decode cX1_fall 72 = .ok (.iinc 2 1, 3) := by decide +kernel
theorem dX1_fall_75 : decode cX1_fall 75 = .ok (.goto (-60), 3) := by decide +kernel
theorem dX1_fall_78 : decode cX1_fall 78 = .ok (.bipush (-4), 2) := by decide +kernel
theorem dX1_fall_80 : decode cX1_fall 80 = .ok (.ireturn, 1) := by decide +kernel
abbrev cX1_outside : ByteArray := prog_3_method_25_code
def yX1_outside : MethodName := ⟨RX1, "outside", "(I)I"⟩
theorem dX1_outside_0 : decode cX1_outside 0 = .ok (.aload_n 0, 1) := by decide +kernel
theorem dX1_outside_1 : decode cX1_outside 1 = .ok (.iload_n 1, 1) := by decide +kernel
theorem dX1_outside_2 : decode cX1_outside 2 = .ok (.invokevirtual 56, 3) := by decide +kernel
theorem dX1_outside_5 : decode cX1_outside 5 = .ok (.ifCond .eq 5, 3) := by decide +kernel
theorem dX1_outside_8 : decode cX1_outside 8 = .ok (.iconst (-1), 1) := by decide +kernel
theorem dX1_outside_9 : decode cX1_outside 9 = .ok (.ireturn, 1) := by decide +kernel
theorem dX1_outside_10 : decode cX1_outside 10 = .ok (.aload_n 0, 1) := by decide +kernel
theorem dX1_outside_11 : decode cX1_outside 11 = .ok (.invokevirtual 33, 3) := by decide +kernel
theorem dX1_outside_14 : decode cX1_outside 14 = .ok (.istore_n 2, 1) := by decide +kernel
theorem dX1_outside_15 : decode cX1_outside 15 = .ok (.iload_n 2, 1) := by decide +kernel
theorem dX1_outside_16 : decode cX1_outside 16 = .ok (.ifCond .ne 5, 3) := by decide +kernel
theorem dX1_outside_19 : decode cX1_outside 19 = .ok (.iconst 0, 1) := by decide +kernel
theorem dX1_outside_20 : decode cX1_outside 20 = .ok (.ireturn, 1) := by decide +kernel
theorem dX1_outside_21 : decode cX1_outside 21 = .ok (.aload_n 0, 1) := by decide +kernel
theorem dX1_outside_22 : decode cX1_outside 22 = .ok (.iload_n 1, 1) := by decide +kernel
theorem dX1_outside_23 : decode cX1_outside 23 = .ok (.aload_n 0, 1) := by decide +kernel
theorem dX1_outside_24 : decode cX1_outside 24 = .ok (.getfield 30, 3) := by decide +kernel
theorem dX1_outside_27 : decode cX1_outside 27 = .ok (.invokevirtual 59, 3) := by decide +kernel
theorem dX1_outside_30 : decode cX1_outside 30 = .ok (.iconst 0, 1) := by decide +kernel
theorem dX1_outside_31 : decode cX1_outside 31 = .ok (.istore_n 3, 1) := by decide +kernel
theorem dX1_outside_32 : decode cX1_outside 32 = .ok (.iconst 0, 1) := by decide +kernel
theorem dX1_outside_33 : decode cX1_outside 33 = .ok (.istore 4, 2) := by decide +kernel
theorem dX1_outside_35 : decode cX1_outside 35 = .ok (.iload 4, 2) := by decide +kernel
theorem dX1_outside_37 : decode cX1_outside 37 = .ok (.aload_n 0, 1) := by decide +kernel
theorem dX1_outside_38 : decode cX1_outside 38 = .ok (.getfield 19, 3) := by decide +kernel
theorem dX1_outside_41 : decode cX1_outside 41 = .ok (.if_icmp .ge 72, 3) := by decide +kernel
theorem dX1_outside_44 : decode cX1_outside 44 = .ok (.aload_n 0, 1) := by decide +kernel
theorem dX1_outside_45 : decode cX1_outside 45 = .ok (.getfield 30, 3) := by decide +kernel
theorem dX1_outside_48 : decode cX1_outside 48 = .ok (.aload_n 0, 1) := by decide +kernel
theorem dX1_outside_49 : decode cX1_outside 49 = .ok (.getfield 7, 3) := by decide +kernel
theorem dX1_outside_52 : decode cX1_outside 52 = .ok (.iload 4, 2) := by decide +kernel
theorem dX1_outside_54 : decode cX1_outside 54 = .ok (.iaload, 1) := by decide +kernel
theorem dX1_outside_55 : decode cX1_outside 55 = .ok (.imul, 1) := by decide +kernel
theorem dX1_outside_56 : decode cX1_outside 56 = .ok (.iload_n 2, 1) := by decide +kernel
theorem dX1_outside_57 : decode cX1_outside 57 = .ok (.idiv, 1) := by decide +kernel
theorem dX1_outside_58 : decode cX1_outside 58 = .ok (.istore 5, 2) := by decide +kernel
theorem dX1_outside_60 : decode cX1_outside 60 = .ok (.aload_n 0, 1) := by decide +kernel
theorem dX1_outside_61 : decode cX1_outside 61 = .ok (.getfield 30, 3) := by decide +kernel
theorem dX1_outside_64 : decode cX1_outside 64 = .ok (.aload_n 0, 1) := by decide +kernel
theorem dX1_outside_65 : decode cX1_outside 65 = .ok (.getfield 7, 3) := by decide +kernel
theorem dX1_outside_68 : decode cX1_outside 68 = .ok (.iload 4, 2) := by decide +kernel
theorem dX1_outside_70 : decode cX1_outside 70 = .ok (.iaload, 1) := by decide +kernel
theorem dX1_outside_71 : decode cX1_outside 71 = .ok (.imul, 1) := by decide +kernel
theorem dX1_outside_72 : decode cX1_outside 72 = .ok (.iload_n 2, 1) := by decide +kernel
theorem dX1_outside_73 : decode cX1_outside 73 = .ok (.iadd, 1) := by decide +kernel
theorem dX1_outside_74 : decode cX1_outside 74 = .ok (.iconst 1, 1) := by decide +kernel
theorem dX1_outside_75 : decode cX1_outside 75 = .ok (.isub, 1) := by decide +kernel
theorem dX1_outside_76 : decode cX1_outside 76 = .ok (.iload_n 2, 1) := by decide +kernel
theorem dX1_outside_77 : decode cX1_outside 77 = .ok (.idiv, 1) := by decide +kernel
theorem dX1_outside_78 : decode cX1_outside 78 = .ok (.istore 6, 2) := by decide +kernel
theorem dX1_outside_80 : decode cX1_outside 80 = .ok (.aload_n 0, 1) := by decide +kernel
theorem dX1_outside_81 : decode cX1_outside 81 = .ok (.getfield 13, 3) := by decide +kernel
theorem dX1_outside_84 : decode cX1_outside 84 = .ok (.iload 4, 2) := by decide +kernel
theorem dX1_outside_86 : decode cX1_outside 86 = .ok (.iaload, 1) := by decide +kernel
theorem dX1_outside_87 : decode cX1_outside 87 = .ok (.iload 5, 2) := by decide +kernel
theorem dX1_outside_89 : decode cX1_outside 89 = .ok (.if_icmp .lt 15, 3) := by decide +kernel
theorem dX1_outside_92 : decode cX1_outside 92 = .ok (.aload_n 0, 1) := by decide +kernel
theorem dX1_outside_93 : decode cX1_outside 93 = .ok (.getfield 13, 3) := by decide +kernel
theorem dX1_outside_96 : decode cX1_outside 96 = .ok (.iload 4, 2) := by decide +kernel
theorem dX1_outside_98 : decode cX1_outside 98 = .ok (.iaload, 1) := by decide +kernel
theorem dX1_outside_99 : decode cX1_outside 99 = .ok (.iload 6, 2) := by decide +kernel
theorem dX1_outside_101 : decode cX1_outside 101 = .ok (.if_icmp .le 6, 3) := by decide +kernel
theorem dX1_outside_104 : decode cX1_outside 104 = .ok (.iinc 3 1, 3) := by decide +kernel
theorem dX1_outside_107 : decode cX1_outside 107 = .ok (.iinc 4 1, 3) := by decide +kernel
theorem dX1_outside_110 : decode cX1_outside 110 = .ok (.goto (-75), 3) := by decide +kernel
theorem dX1_outside_113 : decode cX1_outside 113 = .ok (.iload_n 3, 1) := by decide +kernel
theorem dX1_outside_114 : decode cX1_outside 114 = .ok (.ireturn, 1) := by decide +kernel
abbrev cX1_moved : ByteArray := prog_3_method_26_code
def yX1_moved : MethodName := ⟨RX1, "moved", "(II)I"⟩
theorem dX1_moved_0 : decode cX1_moved 0 = .ok (.aload_n 0, 1) := by decide +kernel
theorem dX1_moved_1 : decode cX1_moved 1 = .ok (.iload_n 1, 1) := by decide +kernel
theorem dX1_moved_2 : decode cX1_moved 2 = .ok (.invokevirtual 56, 3) := by decide +kernel
theorem dX1_moved_5 : decode cX1_moved 5 = .ok (.ifCond .ne 11, 3) := by decide +kernel
theorem dX1_moved_8 : decode cX1_moved 8 = .ok (.aload_n 0, 1) := by decide +kernel
theorem dX1_moved_9 : decode cX1_moved 9 = .ok (.iload_n 2, 1) := by decide +kernel
theorem dX1_moved_10 : decode cX1_moved 10 = .ok (.invokevirtual 56, 3) := by decide +kernel
theorem dX1_moved_13 : decode cX1_moved 13 = .ok (.ifCond .eq 5, 3) := by decide +kernel
theorem dX1_moved_16 : decode cX1_moved 16 = .ok (.iconst (-1), 1) := by decide +kernel
theorem dX1_moved_17 : decode cX1_moved 17 = .ok (.ireturn, 1) := by decide +kernel
theorem dX1_moved_18 : decode cX1_moved 18 = .ok (.aload_n 0, 1) := by decide +kernel
theorem dX1_moved_19 : decode cX1_moved 19 = .ok (.iload_n 1, 1) := by decide +kernel
theorem dX1_moved_20 : decode cX1_moved 20 = .ok (.aload_n 0, 1) := by decide +kernel
theorem dX1_moved_21 : decode cX1_moved 21 = .ok (.getfield 30, 3) := by decide +kernel
theorem dX1_moved_24 : decode cX1_moved 24 = .ok (.invokevirtual 59, 3) := by decide +kernel
theorem dX1_moved_27 : decode cX1_moved 27 = .ok (.aload_n 0, 1) := by decide +kernel
theorem dX1_moved_28 : decode cX1_moved 28 = .ok (.invokevirtual 62, 3) := by decide +kernel
theorem dX1_moved_31 : decode cX1_moved 31 = .ok (.aload_n 0, 1) := by decide +kernel
theorem dX1_moved_32 : decode cX1_moved 32 = .ok (.iload_n 2, 1) := by decide +kernel
theorem dX1_moved_33 : decode cX1_moved 33 = .ok (.aload_n 0, 1) := by decide +kernel
theorem dX1_moved_34 : decode cX1_moved 34 = .ok (.getfield 30, 3) := by decide +kernel
theorem dX1_moved_37 : decode cX1_moved 37 = .ok (.invokevirtual 59, 3) := by decide +kernel
theorem dX1_moved_40 : decode cX1_moved 40 = .ok (.iconst 0, 1) := by decide +kernel
theorem dX1_moved_41 : decode cX1_moved 41 = .ok (.istore_n 3, 1) := by decide +kernel
theorem dX1_moved_42 : decode cX1_moved 42 = .ok (.iconst 0, 1) := by decide +kernel
theorem dX1_moved_43 : decode cX1_moved 43 = .ok (.istore 4, 2) := by decide +kernel
theorem dX1_moved_45 : decode cX1_moved 45 = .ok (.iload 4, 2) := by decide +kernel
theorem dX1_moved_47 : decode cX1_moved 47 = .ok (.aload_n 0, 1) := by decide +kernel
theorem dX1_moved_48 : decode cX1_moved 48 = .ok (.getfield 19, 3) := by decide +kernel
theorem dX1_moved_51 : decode cX1_moved 51 = .ok (.if_icmp .ge 44, 3) := by decide +kernel
theorem dX1_moved_54 : decode cX1_moved 54 = .ok (.aload_n 0, 1) := by decide +kernel
theorem dX1_moved_55 : decode cX1_moved 55 = .ok (.getfield 13, 3) := by decide +kernel
theorem dX1_moved_58 : decode cX1_moved 58 = .ok (.iload 4, 2) := by decide +kernel
theorem dX1_moved_60 : decode cX1_moved 60 = .ok (.iaload, 1) := by decide +kernel
theorem dX1_moved_61 : decode cX1_moved 61 = .ok (.aload_n 0, 1) := by decide +kernel
theorem dX1_moved_62 : decode cX1_moved 62 = .ok (.getfield 16, 3) := by decide +kernel
theorem dX1_moved_65 : decode cX1_moved 65 = .ok (.iload 4, 2) := by decide +kernel
theorem dX1_moved_67 : decode cX1_moved 67 = .ok (.iaload, 1) := by decide +kernel
theorem dX1_moved_68 : decode cX1_moved 68 = .ok (.if_icmp .le 21, 3) := by decide +kernel
theorem dX1_moved_71 : decode cX1_moved 71 = .ok (.iload_n 3, 1) := by decide +kernel
theorem dX1_moved_72 : decode cX1_moved 72 = .ok (.aload_n 0, 1) := by decide +kernel
theorem dX1_moved_73 : decode cX1_moved 73 = .ok (.getfield 13, 3) := by decide +kernel
theorem dX1_moved_76 : decode cX1_moved 76 = .ok (.iload 4, 2) := by decide +kernel
theorem dX1_moved_78 : decode cX1_moved 78 = .ok (.iaload, 1) := by decide +kernel
theorem dX1_moved_79 : decode cX1_moved 79 = .ok (.aload_n 0, 1) := by decide +kernel
theorem dX1_moved_80 : decode cX1_moved 80 = .ok (.getfield 16, 3) := by decide +kernel
theorem dX1_moved_83 : decode cX1_moved 83 = .ok (.iload 4, 2) := by decide +kernel
theorem dX1_moved_85 : decode cX1_moved 85 = .ok (.iaload, 1) := by decide +kernel
theorem dX1_moved_86 : decode cX1_moved 86 = .ok (.isub, 1) := by decide +kernel
theorem dX1_moved_87 : decode cX1_moved 87 = .ok (.iadd, 1) := by decide +kernel
theorem dX1_moved_88 : decode cX1_moved 88 = .ok (.istore_n 3, 1) := by decide +kernel
theorem dX1_moved_89 : decode cX1_moved 89 = .ok (.iinc 4 1, 3) := by decide +kernel
theorem dX1_moved_92 : decode cX1_moved 92 = .ok (.goto (-47), 3) := by decide +kernel
theorem dX1_moved_95 : decode cX1_moved 95 = .ok (.iload_n 3, 1) := by decide +kernel
theorem dX1_moved_96 : decode cX1_moved 96 = .ok (.ireturn, 1) := by decide +kernel
abbrev cX1_majority : ByteArray := prog_3_method_27_code
def yX1_majority : MethodName := ⟨RX1, "majority", "(I)I"⟩
theorem dX1_majority_0 : decode cX1_majority 0 = .ok (.aload_n 0, 1) := by decide +kernel
theorem dX1_majority_1 : decode cX1_majority 1 = .ok (.iload_n 1, 1) := by decide +kernel
theorem dX1_majority_2 : decode cX1_majority 2 = .ok (.invokevirtual 56, 3) := by decide +kernel
theorem dX1_majority_5 : decode cX1_majority 5 = .ok (.ifCond .eq 5, 3) := by decide +kernel
theorem dX1_majority_8 : decode cX1_majority 8 = .ok (.iconst (-1), 1) := by decide +kernel
theorem dX1_majority_9 : decode cX1_majority 9 = .ok (.ireturn, 1) := by decide +kernel
theorem dX1_majority_10 : decode cX1_majority 10 = .ok (.aload_n 0, 1) := by decide +kernel
theorem dX1_majority_11 : decode cX1_majority 11 = .ok (.iload_n 1, 1) := by decide +kernel
theorem dX1_majority_12 : decode cX1_majority 12 = .ok (.aload_n 0, 1) := by decide +kernel
theorem dX1_majority_13 : decode cX1_majority 13 = .ok (.getfield 30, 3) := by decide +kernel
theorem dX1_majority_16 : decode cX1_majority 16 = .ok (.invokevirtual 59, 3) := by decide +kernel
theorem dX1_majority_19 : decode cX1_majority 19 = .ok (.iconst 0, 1) := by decide +kernel
theorem dX1_majority_20 : decode cX1_majority 20 = .ok (.istore_n 2, 1) := by decide +kernel
theorem dX1_majority_21 : decode cX1_majority 21 = .ok (.iconst 0, 1) := by decide +kernel
theorem dX1_majority_22 : decode cX1_majority 22 = .ok (.istore_n 3, 1) := by decide +kernel
theorem dX1_majority_23 : decode cX1_majority 23 = .ok (.iload_n 3, 1) := by decide +kernel
theorem dX1_majority_24 : decode cX1_majority 24 = .ok (.aload_n 0, 1) := by decide +kernel
theorem dX1_majority_25 : decode cX1_majority 25 = .ok (.getfield 19, 3) := by decide +kernel
theorem dX1_majority_28 : decode cX1_majority 28 = .ok (.if_icmp .ge 18, 3) := by decide +kernel
theorem dX1_majority_31 : decode cX1_majority 31 = .ok (.iload_n 2, 1) := by decide +kernel
theorem dX1_majority_32 : decode cX1_majority 32 = .ok (.aload_n 0, 1) := by decide +kernel
theorem dX1_majority_33 : decode cX1_majority 33 = .ok (.getfield 13, 3) := by decide +kernel
theorem dX1_majority_36 : decode cX1_majority 36 = .ok (.iload_n 3, 1) := by decide +kernel
theorem dX1_majority_37 : decode cX1_majority 37 = .ok (.iaload, 1) := by decide +kernel
theorem dX1_majority_38 : decode cX1_majority 38 = .ok (.iadd, 1) := by decide +kernel
theorem dX1_majority_39 : decode cX1_majority 39 = .ok (.istore_n 2, 1) := by decide +kernel
theorem dX1_majority_40 : decode cX1_majority 40 = .ok (.iinc 3 1, 3) := by decide +kernel
theorem dX1_majority_43 : decode cX1_majority 43 = .ok (.goto (-20), 3) := by decide +kernel
theorem dX1_majority_46 : decode cX1_majority 46 = .ok (.iconst 0, 1) := by decide +kernel
theorem dX1_majority_47 : decode cX1_majority 47 = .ok (.istore_n 3, 1) := by decide +kernel
theorem dX1_majority_48 : decode cX1_majority 48 = .ok (.iconst 0, 1) := by decide +kernel
theorem dX1_majority_49 : decode cX1_majority 49 = .ok (.istore 4, 2) := by decide +kernel
theorem dX1_majority_51 : decode cX1_majority 51 = .ok (.iconst 2, 1) := by decide +kernel
theorem dX1_majority_52 : decode cX1_majority 52 = .ok (.iload_n 3, 1) := by decide +kernel
theorem dX1_majority_53 : decode cX1_majority 53 = .ok (.imul, 1) := by decide +kernel
theorem dX1_majority_54 : decode cX1_majority 54 = .ok (.iload_n 2, 1) := by decide +kernel
theorem dX1_majority_55 : decode cX1_majority 55 = .ok (.if_icmp .gt 73, 3) := by decide +kernel
theorem dX1_majority_58 : decode cX1_majority 58 = .ok (.iload_n 2, 1) := by decide +kernel
theorem dX1_majority_59 : decode cX1_majority 59 = .ok (.ifCond .le 69, 3) := by decide +kernel
theorem dX1_majority_62 : decode cX1_majority 62 = .ok (.iconst 0, 1) := by decide +kernel
theorem dX1_majority_63 : decode cX1_majority 63 = .ok (.istore 5, 2) := by decide +kernel
theorem dX1_majority_65 : decode cX1_majority 65 = .ok (.iconst 1, 1) := by decide +kernel
theorem dX1_majority_66 : decode cX1_majority 66 = .ok (.istore 6, 2) := by decide +kernel
theorem dX1_majority_68 : decode cX1_majority 68 = .ok (.iload 6, 2) := by decide +kernel
theorem dX1_majority_70 : decode cX1_majority 70 = .ok (.aload_n 0, 1) := by decide +kernel
theorem dX1_majority_71 : decode cX1_majority 71 = .ok (.getfield 19, 3) := by decide +kernel
theorem dX1_majority_74 : decode cX1_majority 74 = .ok (.if_icmp .ge 30, 3) := by decide +kernel
theorem dX1_majority_77 : decode cX1_majority 77 = .ok (.aload_n 0, 1) := by decide +kernel
theorem dX1_majority_78 : decode cX1_majority 78 = .ok (.getfield 13, 3) := by decide +kernel
theorem dX1_majority_81 : decode cX1_majority 81 = .ok (.iload 6, 2) := by decide +kernel
theorem dX1_majority_83 : decode cX1_majority 83 = .ok (.iaload, 1) := by decide +kernel
theorem dX1_majority_84 : decode cX1_majority 84 = .ok (.aload_n 0, 1) := by decide +kernel
theorem dX1_majority_85 : decode cX1_majority 85 = .ok (.getfield 13, 3) := by decide +kernel
theorem dX1_majority_88 : decode cX1_majority 88 = .ok (.iload 5, 2) := by decide +kernel
theorem dX1_majority_90 : decode cX1_majority 90 = .ok (.iaload, 1) := by decide +kernel
theorem dX1_majority_91 : decode cX1_majority 91 = .ok (.if_icmp .le 7, 3) := by decide +kernel
theorem dX1_majority_94 : decode cX1_majority 94 = .ok (.iload 6, 2) := by decide +kernel
theorem dX1_majority_96 : decode cX1_majority 96 = .ok (.istore 5, 2) := by decide +kernel
theorem dX1_majority_98 : decode cX1_majority 98 = .ok (.iinc 6 1, 3) := by decide +kernel
theorem dX1_majority_101 : decode cX1_majority 101 = .ok (.goto (-33), 3) := by decide +kernel
theorem dX1_majority_104 : decode cX1_majority 104 = .ok (.iload_n 3, 1) := by decide +kernel
theorem dX1_majority_105 : decode cX1_majority 105 = .ok (.aload_n 0, 1) := by decide +kernel
theorem dX1_majority_106 : decode cX1_majority 106 = .ok (.getfield 13, 3) := by decide +kernel
theorem dX1_majority_109 : decode cX1_majority 109 = .ok (.iload 5, 2) := by decide +kernel
theorem dX1_majority_111 : decode cX1_majority 111 = .ok (.iaload, 1) := by decide +kernel
theorem dX1_majority_112 : decode cX1_majority 112 = .ok (.iadd, 1) := by decide +kernel
theorem dX1_majority_113 : decode cX1_majority 113 = .ok (.istore_n 3, 1) := by decide +kernel
theorem dX1_majority_114 : decode cX1_majority 114 = .ok (.aload_n 0, 1) := by decide +kernel
theorem dX1_majority_115 : decode cX1_majority 115 = .ok (.getfield 13, 3) := by decide +kernel
theorem dX1_majority_118 : decode cX1_majority 118 = .ok (.iload 5, 2) := by decide +kernel
theorem dX1_majority_120 : decode cX1_majority 120 = .ok (.iconst 0, 1) := by decide +kernel
theorem dX1_majority_121 : decode cX1_majority 121 = .ok (.iastore, 1) := by decide +kernel
theorem dX1_majority_122 : decode cX1_majority 122 = .ok (.iinc 4 1, 3) := by decide +kernel
theorem dX1_majority_125 : decode cX1_majority 125 = .ok (.goto (-74), 3) := by decide +kernel
theorem dX1_majority_128 : decode cX1_majority 128 = .ok (.iload 4, 2) := by decide +kernel
theorem dX1_majority_130 : decode cX1_majority 130 = .ok (.ireturn, 1) := by decide +kernel
theorem q29 : (Jvm.Cond.initialized "SeatSharesModel") ∈ lw_all := lw_g (lw_at lw_m1 2 rfl) rfl
theorem q190 : (Jvm.Cond.instantiable "SeatSharesModel" (5 : Nat)) ∈ lw_all := lw_g (lw_at lw_m1 163 rfl) rfl
theorem q192 : (Jvm.Cond.instanceMethod ({ cls := "SeatSharesModel", name := "<init>", desc := "()V" } : Jvm.MethodName)) ∈ lw_all := lw_g (lw_at lw_m1 165 rfl) rfl
theorem q193 : (Jvm.Cond.code ({ cls := "SeatSharesModel", name := "<init>", desc := "()V" } : Jvm.MethodName) prog_3_method_1_code (1 : Nat) (Option.none : Option Jvm.ClassFile.FieldType)) ∈ lw_all := lw_g (lw_at lw_m1 166 rfl) rfl
theorem q194 : (Jvm.Cond.methodLink "SeatSharesModel" (1 : Nat) ({ cls := "java/lang/Object", name := "<init>", desc := "()V" } : Jvm.MethodName)) ∈ lw_all := lw_g (lw_at lw_m1 167 rfl) rfl
theorem q195 : (Jvm.Cond.fieldLink "SeatSharesModel" (19 : Nat) "SeatSharesModel" "count" "I") ∈ lw_all := lw_g (lw_at lw_m1 168 rfl) rfl
theorem q196 : (Jvm.Cond.fieldLink "SeatSharesModel" (7 : Nat) "SeatSharesModel" "votes" "[I") ∈ lw_all := lw_g (lw_at lw_m1 169 rfl) rfl
theorem q197 : (Jvm.Cond.fieldLink "SeatSharesModel" (30 : Nat) "SeatSharesModel" "seats" "I") ∈ lw_all := lw_g (lw_at lw_m1 170 rfl) rfl
theorem q198 : (Jvm.Cond.fieldLink "SeatSharesModel" (13 : Nat) "SeatSharesModel" "shares" "[I") ∈ lw_all := lw_g (lw_at lw_m1 171 rfl) rfl
theorem q199 : (Jvm.Cond.fieldLink "SeatSharesModel" (16 : Nat) "SeatSharesModel" "kept" "[I") ∈ lw_all := lw_g (lw_at lw_m1 172 rfl) rfl
theorem q200 : (Jvm.Cond.lays "SeatSharesModel" "SeatSharesModel" "count" "I") ∈ lw_all := lw_g (lw_at lw_m1 173 rfl) rfl
theorem q201 : (Jvm.Cond.soleField "SeatSharesModel" "count") ∈ lw_all := lw_g (lw_at lw_m1 174 rfl) rfl
theorem q202 : (Jvm.Cond.lays "SeatSharesModel" "SeatSharesModel" "votes" "[I") ∈ lw_all := lw_g (lw_at lw_m1 175 rfl) rfl
theorem q203 : (Jvm.Cond.soleField "SeatSharesModel" "votes") ∈ lw_all := lw_g (lw_at lw_m1 176 rfl) rfl
theorem q204 : (Jvm.Cond.lays "SeatSharesModel" "SeatSharesModel" "seats" "I") ∈ lw_all := lw_g (lw_at lw_m1 177 rfl) rfl
theorem q205 : (Jvm.Cond.soleField "SeatSharesModel" "seats") ∈ lw_all := lw_g (lw_at lw_m1 178 rfl) rfl
theorem q206 : (Jvm.Cond.lays "SeatSharesModel" "SeatSharesModel" "shares" "[I") ∈ lw_all := lw_g (lw_at lw_m1 179 rfl) rfl
theorem q207 : (Jvm.Cond.soleField "SeatSharesModel" "shares") ∈ lw_all := lw_g (lw_at lw_m1 180 rfl) rfl
theorem q208 : (Jvm.Cond.lays "SeatSharesModel" "SeatSharesModel" "kept" "[I") ∈ lw_all := lw_g (lw_at lw_m1 181 rfl) rfl
theorem q209 : (Jvm.Cond.soleField "SeatSharesModel" "kept") ∈ lw_all := lw_g (lw_at lw_m1 182 rfl) rfl
theorem q210 : (Jvm.Cond.superclass "SeatSharesModel" "java/lang/Object") ∈ lw_all := lw_g (lw_at lw_m1 183 rfl) rfl
theorem q212 : (Jvm.Cond.instanceMethod ({ cls := "SeatSharesModel", name := "list", desc := "(I)I" } : Jvm.MethodName)) ∈ lw_all := lw_g (lw_at lw_m1 185 rfl) rfl
theorem q213 : (Jvm.Cond.selects "SeatSharesModel" ({ cls := "SeatSharesModel", name := "list", desc := "(I)I" } : Jvm.MethodName) ({ cls := "SeatSharesModel", name := "list", desc := "(I)I" } : Jvm.MethodName)) ∈ lw_all := lw_g (lw_at lw_m1 186 rfl) rfl
theorem q214 : (Jvm.Cond.code ({ cls := "SeatSharesModel", name := "list", desc := "(I)I" } : Jvm.MethodName) prog_3_method_4_code (2 : Nat) (Option.some Jvm.ClassFile.FieldType.int)) ∈ lw_all := lw_g (lw_at lw_m1 187 rfl) rfl
theorem q215 : (Jvm.Cond.methodLink "SeatSharesModel" (23 : Nat) ({ cls := "SeatSharesModel", name := "noVotes", desc := "(I)Z" } : Jvm.MethodName)) ∈ lw_all := lw_g (lw_at lw_m1 188 rfl) rfl
theorem q216 : (Jvm.Cond.privateMethod ({ cls := "SeatSharesModel", name := "noVotes", desc := "(I)Z" } : Jvm.MethodName)) ∈ lw_tbl := lw_at lw_m1 189 rfl
theorem q217 : (Jvm.Cond.instanceMethod ({ cls := "SeatSharesModel", name := "noVotes", desc := "(I)Z" } : Jvm.MethodName)) ∈ lw_all := lw_g (lw_at lw_m1 190 rfl) rfl
theorem q218 : (Jvm.Cond.code ({ cls := "SeatSharesModel", name := "noVotes", desc := "(I)Z" } : Jvm.MethodName) prog_3_method_2_code (2 : Nat) (Option.some Jvm.ClassFile.FieldType.boolean)) ∈ lw_all := lw_g (lw_at lw_m1 191 rfl) rfl
theorem q220 : (Jvm.Cond.instanceMethod ({ cls := "SeatSharesModel", name := "vote", desc := "(II)I" } : Jvm.MethodName)) ∈ lw_all := lw_g (lw_at lw_m1 193 rfl) rfl
theorem q221 : (Jvm.Cond.selects "SeatSharesModel" ({ cls := "SeatSharesModel", name := "vote", desc := "(II)I" } : Jvm.MethodName) ({ cls := "SeatSharesModel", name := "vote", desc := "(II)I" } : Jvm.MethodName)) ∈ lw_all := lw_g (lw_at lw_m1 194 rfl) rfl
theorem q222 : (Jvm.Cond.code ({ cls := "SeatSharesModel", name := "vote", desc := "(II)I" } : Jvm.MethodName) prog_3_method_5_code (4 : Nat) (Option.some Jvm.ClassFile.FieldType.int)) ∈ lw_all := lw_g (lw_at lw_m1 195 rfl) rfl
theorem q223 : (Jvm.Cond.methodLink "SeatSharesModel" (27 : Nat) ({ cls := "SeatSharesModel", name := "noList", desc := "(I)Z" } : Jvm.MethodName)) ∈ lw_all := lw_g (lw_at lw_m1 196 rfl) rfl
theorem q224 : (Jvm.Cond.privateMethod ({ cls := "SeatSharesModel", name := "noList", desc := "(I)Z" } : Jvm.MethodName)) ∈ lw_tbl := lw_at lw_m1 197 rfl
theorem q225 : (Jvm.Cond.instanceMethod ({ cls := "SeatSharesModel", name := "noList", desc := "(I)Z" } : Jvm.MethodName)) ∈ lw_all := lw_g (lw_at lw_m1 198 rfl) rfl
theorem q226 : (Jvm.Cond.code ({ cls := "SeatSharesModel", name := "noList", desc := "(I)Z" } : Jvm.MethodName) prog_3_method_3_code (2 : Nat) (Option.some Jvm.ClassFile.FieldType.boolean)) ∈ lw_all := lw_g (lw_at lw_m1 199 rfl) rfl
theorem q228 : (Jvm.Cond.instanceMethod ({ cls := "SeatSharesModel", name := "join", desc := "(II)I" } : Jvm.MethodName)) ∈ lw_all := lw_g (lw_at lw_m1 201 rfl) rfl
theorem q229 : (Jvm.Cond.selects "SeatSharesModel" ({ cls := "SeatSharesModel", name := "join", desc := "(II)I" } : Jvm.MethodName) ({ cls := "SeatSharesModel", name := "join", desc := "(II)I" } : Jvm.MethodName)) ∈ lw_all := lw_g (lw_at lw_m1 202 rfl) rfl
theorem q230 : (Jvm.Cond.code ({ cls := "SeatSharesModel", name := "join", desc := "(II)I" } : Jvm.MethodName) prog_3_method_6_code (4 : Nat) (Option.some Jvm.ClassFile.FieldType.int)) ∈ lw_all := lw_g (lw_at lw_m1 203 rfl) rfl
theorem q232 : (Jvm.Cond.instanceMethod ({ cls := "SeatSharesModel", name := "seats", desc := "(I)I" } : Jvm.MethodName)) ∈ lw_all := lw_g (lw_at lw_m1 205 rfl) rfl
theorem q233 : (Jvm.Cond.selects "SeatSharesModel" ({ cls := "SeatSharesModel", name := "seats", desc := "(I)I" } : Jvm.MethodName) ({ cls := "SeatSharesModel", name := "seats", desc := "(I)I" } : Jvm.MethodName)) ∈ lw_all := lw_g (lw_at lw_m1 206 rfl) rfl
theorem q234 : (Jvm.Cond.code ({ cls := "SeatSharesModel", name := "seats", desc := "(I)I" } : Jvm.MethodName) prog_3_method_7_code (3 : Nat) (Option.some Jvm.ClassFile.FieldType.int)) ∈ lw_all := lw_g (lw_at lw_m1 207 rfl) rfl
theorem q236 : (Jvm.Cond.instanceMethod ({ cls := "SeatSharesModel", name := "bar", desc := "(I)I" } : Jvm.MethodName)) ∈ lw_all := lw_g (lw_at lw_m1 209 rfl) rfl
theorem q237 : (Jvm.Cond.selects "SeatSharesModel" ({ cls := "SeatSharesModel", name := "bar", desc := "(I)I" } : Jvm.MethodName) ({ cls := "SeatSharesModel", name := "bar", desc := "(I)I" } : Jvm.MethodName)) ∈ lw_all := lw_g (lw_at lw_m1 210 rfl) rfl
theorem q238 : (Jvm.Cond.code ({ cls := "SeatSharesModel", name := "bar", desc := "(I)I" } : Jvm.MethodName) prog_3_method_8_code (5 : Nat) (Option.some Jvm.ClassFile.FieldType.int)) ∈ lw_all := lw_g (lw_at lw_m1 211 rfl) rfl
theorem q239 : (Jvm.Cond.methodLink "SeatSharesModel" (33 : Nat) ({ cls := "SeatSharesModel", name := "votes", desc := "()I" } : Jvm.MethodName)) ∈ lw_all := lw_g (lw_at lw_m1 212 rfl) rfl
theorem q240 : (Jvm.Cond.instanceMethod ({ cls := "SeatSharesModel", name := "votes", desc := "()I" } : Jvm.MethodName)) ∈ lw_all := lw_g (lw_at lw_m1 213 rfl) rfl
theorem q241 : (Jvm.Cond.selects "SeatSharesModel" ({ cls := "SeatSharesModel", name := "votes", desc := "()I" } : Jvm.MethodName) ({ cls := "SeatSharesModel", name := "votes", desc := "()I" } : Jvm.MethodName)) ∈ lw_all := lw_g (lw_at lw_m1 214 rfl) rfl
theorem q242 : (Jvm.Cond.code ({ cls := "SeatSharesModel", name := "votes", desc := "()I" } : Jvm.MethodName) prog_3_method_10_code (3 : Nat) (Option.some Jvm.ClassFile.FieldType.int)) ∈ lw_all := lw_g (lw_at lw_m1 215 rfl) rfl
theorem q244 : (Jvm.Cond.instanceMethod ({ cls := "SeatSharesModel", name := "lists", desc := "()I" } : Jvm.MethodName)) ∈ lw_all := lw_g (lw_at lw_m1 217 rfl) rfl
theorem q245 : (Jvm.Cond.selects "SeatSharesModel" ({ cls := "SeatSharesModel", name := "lists", desc := "()I" } : Jvm.MethodName) ({ cls := "SeatSharesModel", name := "lists", desc := "()I" } : Jvm.MethodName)) ∈ lw_all := lw_g (lw_at lw_m1 218 rfl) rfl
theorem q246 : (Jvm.Cond.code ({ cls := "SeatSharesModel", name := "lists", desc := "()I" } : Jvm.MethodName) prog_3_method_9_code (1 : Nat) (Option.some Jvm.ClassFile.FieldType.int)) ∈ lw_all := lw_g (lw_at lw_m1 219 rfl) rfl
theorem q249 : (Jvm.Cond.instanceMethod ({ cls := "SeatSharesModel", name := "share", desc := "(II)I" } : Jvm.MethodName)) ∈ lw_all := lw_g (lw_at lw_m1 222 rfl) rfl
theorem q250 : (Jvm.Cond.selects "SeatSharesModel" ({ cls := "SeatSharesModel", name := "share", desc := "(II)I" } : Jvm.MethodName) ({ cls := "SeatSharesModel", name := "share", desc := "(II)I" } : Jvm.MethodName)) ∈ lw_all := lw_g (lw_at lw_m1 223 rfl) rfl
theorem q251 : (Jvm.Cond.code ({ cls := "SeatSharesModel", name := "share", desc := "(II)I" } : Jvm.MethodName) prog_3_method_18_code (3 : Nat) (Option.some Jvm.ClassFile.FieldType.int)) ∈ lw_all := lw_g (lw_at lw_m1 224 rfl) rfl
theorem q252 : (Jvm.Cond.methodLink "SeatSharesModel" (56 : Nat) ({ cls := "SeatSharesModel", name := "noRule", desc := "(I)Z" } : Jvm.MethodName)) ∈ lw_all := lw_g (lw_at lw_m1 225 rfl) rfl
theorem q253 : (Jvm.Cond.privateMethod ({ cls := "SeatSharesModel", name := "noRule", desc := "(I)Z" } : Jvm.MethodName)) ∈ lw_tbl := lw_at lw_m1 226 rfl
theorem q254 : (Jvm.Cond.instanceMethod ({ cls := "SeatSharesModel", name := "noRule", desc := "(I)Z" } : Jvm.MethodName)) ∈ lw_all := lw_g (lw_at lw_m1 227 rfl) rfl
theorem q255 : (Jvm.Cond.code ({ cls := "SeatSharesModel", name := "noRule", desc := "(I)Z" } : Jvm.MethodName) prog_3_method_17_code (2 : Nat) (Option.some Jvm.ClassFile.FieldType.boolean)) ∈ lw_all := lw_g (lw_at lw_m1 228 rfl) rfl
theorem q256 : (Jvm.Cond.methodLink "SeatSharesModel" (59 : Nat) ({ cls := "SeatSharesModel", name := "give", desc := "(II)V" } : Jvm.MethodName)) ∈ lw_all := lw_g (lw_at lw_m1 229 rfl) rfl
theorem q257 : (Jvm.Cond.privateMethod ({ cls := "SeatSharesModel", name := "give", desc := "(II)V" } : Jvm.MethodName)) ∈ lw_tbl := lw_at lw_m1 230 rfl
theorem q258 : (Jvm.Cond.instanceMethod ({ cls := "SeatSharesModel", name := "give", desc := "(II)V" } : Jvm.MethodName)) ∈ lw_all := lw_g (lw_at lw_m1 231 rfl) rfl
theorem q259 : (Jvm.Cond.code ({ cls := "SeatSharesModel", name := "give", desc := "(II)V" } : Jvm.MethodName) prog_3_method_16_code (4 : Nat) (Option.none : Option Jvm.ClassFile.FieldType)) ∈ lw_all := lw_g (lw_at lw_m1 232 rfl) rfl
theorem q260 : (Jvm.Cond.methodLink "SeatSharesModel" (49 : Nat) ({ cls := "SeatSharesModel", name := "giveByQuotients", desc := "(II)V" } : Jvm.MethodName)) ∈ lw_all := lw_g (lw_at lw_m1 233 rfl) rfl
theorem q261 : (Jvm.Cond.privateMethod ({ cls := "SeatSharesModel", name := "giveByQuotients", desc := "(II)V" } : Jvm.MethodName)) ∈ lw_tbl := lw_at lw_m1 234 rfl
theorem q262 : (Jvm.Cond.instanceMethod ({ cls := "SeatSharesModel", name := "giveByQuotients", desc := "(II)V" } : Jvm.MethodName)) ∈ lw_all := lw_g (lw_at lw_m1 235 rfl) rfl
theorem q263 : (Jvm.Cond.code ({ cls := "SeatSharesModel", name := "giveByQuotients", desc := "(II)V" } : Jvm.MethodName) prog_3_method_14_code (6 : Nat) (Option.none : Option Jvm.ClassFile.FieldType)) ∈ lw_all := lw_g (lw_at lw_m1 236 rfl) rfl
theorem q264 : (Jvm.Cond.methodLink "SeatSharesModel" (45 : Nat) ({ cls := "SeatSharesModel", name := "isGreater", desc := "(III)Z" } : Jvm.MethodName)) ∈ lw_all := lw_g (lw_at lw_m1 237 rfl) rfl
theorem q265 : (Jvm.Cond.privateMethod ({ cls := "SeatSharesModel", name := "isGreater", desc := "(III)Z" } : Jvm.MethodName)) ∈ lw_tbl := lw_at lw_m1 238 rfl
theorem q266 : (Jvm.Cond.instanceMethod ({ cls := "SeatSharesModel", name := "isGreater", desc := "(III)Z" } : Jvm.MethodName)) ∈ lw_all := lw_g (lw_at lw_m1 239 rfl) rfl
theorem q267 : (Jvm.Cond.code ({ cls := "SeatSharesModel", name := "isGreater", desc := "(III)Z" } : Jvm.MethodName) prog_3_method_13_code (8 : Nat) (Option.some Jvm.ClassFile.FieldType.boolean)) ∈ lw_all := lw_g (lw_at lw_m2 0 rfl) rfl
theorem q268 : (Jvm.Cond.methodLink "SeatSharesModel" (38 : Nat) ({ cls := "SeatSharesModel", name := "divisor", desc := "(II)J" } : Jvm.MethodName)) ∈ lw_all := lw_g (lw_at lw_m2 1 rfl) rfl
theorem q269 : (Jvm.Cond.privateMethod ({ cls := "SeatSharesModel", name := "divisor", desc := "(II)J" } : Jvm.MethodName)) ∈ lw_tbl := lw_at lw_m2 2 rfl
theorem q270 : (Jvm.Cond.instanceMethod ({ cls := "SeatSharesModel", name := "divisor", desc := "(II)J" } : Jvm.MethodName)) ∈ lw_all := lw_g (lw_at lw_m2 3 rfl) rfl
theorem q271 : (Jvm.Cond.code ({ cls := "SeatSharesModel", name := "divisor", desc := "(II)J" } : Jvm.MethodName) prog_3_method_11_code (3 : Nat) (Option.some Jvm.ClassFile.FieldType.long)) ∈ lw_all := lw_g (lw_at lw_m2 4 rfl) rfl
theorem q272 : (Jvm.Cond.constantLong "SeatSharesModel" (36 : Nat) (7 : Int64)) ∈ lw_all := lw_g (lw_at lw_m2 5 rfl) rfl
theorem q273 : (Jvm.Cond.methodLink "SeatSharesModel" (42 : Nat) ({ cls := "SeatSharesModel", name := "worth", desc := "(II)J" } : Jvm.MethodName)) ∈ lw_all := lw_g (lw_at lw_m2 6 rfl) rfl
theorem q274 : (Jvm.Cond.privateMethod ({ cls := "SeatSharesModel", name := "worth", desc := "(II)J" } : Jvm.MethodName)) ∈ lw_tbl := lw_at lw_m2 7 rfl
theorem q275 : (Jvm.Cond.instanceMethod ({ cls := "SeatSharesModel", name := "worth", desc := "(II)J" } : Jvm.MethodName)) ∈ lw_all := lw_g (lw_at lw_m2 8 rfl) rfl
theorem q276 : (Jvm.Cond.code ({ cls := "SeatSharesModel", name := "worth", desc := "(II)J" } : Jvm.MethodName) prog_3_method_12_code (3 : Nat) (Option.some Jvm.ClassFile.FieldType.long)) ∈ lw_all := lw_g (lw_at lw_m2 9 rfl) rfl
theorem q277 : (Jvm.Cond.methodLink "SeatSharesModel" (53 : Nat) ({ cls := "SeatSharesModel", name := "giveByRests", desc := "(II)V" } : Jvm.MethodName)) ∈ lw_all := lw_g (lw_at lw_m2 10 rfl) rfl
theorem q278 : (Jvm.Cond.privateMethod ({ cls := "SeatSharesModel", name := "giveByRests", desc := "(II)V" } : Jvm.MethodName)) ∈ lw_tbl := lw_at lw_m2 11 rfl
theorem q279 : (Jvm.Cond.instanceMethod ({ cls := "SeatSharesModel", name := "giveByRests", desc := "(II)V" } : Jvm.MethodName)) ∈ lw_all := lw_g (lw_at lw_m2 12 rfl) rfl
theorem q280 : (Jvm.Cond.code ({ cls := "SeatSharesModel", name := "giveByRests", desc := "(II)V" } : Jvm.MethodName) prog_3_method_15_code (11 : Nat) (Option.none : Option Jvm.ClassFile.FieldType)) ∈ lw_all := lw_g (lw_at lw_m2 13 rfl) rfl
theorem q282 : (Jvm.Cond.instanceMethod ({ cls := "SeatSharesModel", name := "next", desc := "(I)I" } : Jvm.MethodName)) ∈ lw_all := lw_g (lw_at lw_m2 15 rfl) rfl
theorem q283 : (Jvm.Cond.selects "SeatSharesModel" ({ cls := "SeatSharesModel", name := "next", desc := "(I)I" } : Jvm.MethodName) ({ cls := "SeatSharesModel", name := "next", desc := "(I)I" } : Jvm.MethodName)) ∈ lw_all := lw_g (lw_at lw_m2 16 rfl) rfl
theorem q284 : (Jvm.Cond.code ({ cls := "SeatSharesModel", name := "next", desc := "(I)I" } : Jvm.MethodName) prog_3_method_20_code (3 : Nat) (Option.some Jvm.ClassFile.FieldType.int)) ∈ lw_all := lw_g (lw_at lw_m2 17 rfl) rfl
theorem q285 : (Jvm.Cond.methodLink "SeatSharesModel" (62 : Nat) ({ cls := "SeatSharesModel", name := "keep", desc := "()V" } : Jvm.MethodName)) ∈ lw_all := lw_g (lw_at lw_m2 18 rfl) rfl
theorem q286 : (Jvm.Cond.privateMethod ({ cls := "SeatSharesModel", name := "keep", desc := "()V" } : Jvm.MethodName)) ∈ lw_tbl := lw_at lw_m2 19 rfl
theorem q287 : (Jvm.Cond.instanceMethod ({ cls := "SeatSharesModel", name := "keep", desc := "()V" } : Jvm.MethodName)) ∈ lw_all := lw_g (lw_at lw_m2 20 rfl) rfl
theorem q288 : (Jvm.Cond.code ({ cls := "SeatSharesModel", name := "keep", desc := "()V" } : Jvm.MethodName) prog_3_method_19_code (2 : Nat) (Option.none : Option Jvm.ClassFile.FieldType)) ∈ lw_all := lw_g (lw_at lw_m2 21 rfl) rfl
theorem q290 : (Jvm.Cond.instanceMethod ({ cls := "SeatSharesModel", name := "missing", desc := "(II)I" } : Jvm.MethodName)) ∈ lw_all := lw_g (lw_at lw_m2 23 rfl) rfl
theorem q291 : (Jvm.Cond.selects "SeatSharesModel" ({ cls := "SeatSharesModel", name := "missing", desc := "(II)I" } : Jvm.MethodName) ({ cls := "SeatSharesModel", name := "missing", desc := "(II)I" } : Jvm.MethodName)) ∈ lw_all := lw_g (lw_at lw_m2 24 rfl) rfl
theorem q292 : (Jvm.Cond.code ({ cls := "SeatSharesModel", name := "missing", desc := "(II)I" } : Jvm.MethodName) prog_3_method_22_code (6 : Nat) (Option.some Jvm.ClassFile.FieldType.int)) ∈ lw_all := lw_g (lw_at lw_m2 25 rfl) rfl
theorem q293 : (Jvm.Cond.methodLink "SeatSharesModel" (65 : Nat) ({ cls := "SeatSharesModel", name := "shareWith", desc := "(III)I" } : Jvm.MethodName)) ∈ lw_all := lw_g (lw_at lw_m2 26 rfl) rfl
theorem q294 : (Jvm.Cond.privateMethod ({ cls := "SeatSharesModel", name := "shareWith", desc := "(III)I" } : Jvm.MethodName)) ∈ lw_tbl := lw_at lw_m2 27 rfl
theorem q295 : (Jvm.Cond.instanceMethod ({ cls := "SeatSharesModel", name := "shareWith", desc := "(III)I" } : Jvm.MethodName)) ∈ lw_all := lw_g (lw_at lw_m2 28 rfl) rfl
theorem q296 : (Jvm.Cond.code ({ cls := "SeatSharesModel", name := "shareWith", desc := "(III)I" } : Jvm.MethodName) prog_3_method_21_code (5 : Nat) (Option.some Jvm.ClassFile.FieldType.int)) ∈ lw_all := lw_g (lw_at lw_m2 29 rfl) rfl
theorem q298 : (Jvm.Cond.instanceMethod ({ cls := "SeatSharesModel", name := "spare", desc := "(II)I" } : Jvm.MethodName)) ∈ lw_all := lw_g (lw_at lw_m2 31 rfl) rfl
theorem q299 : (Jvm.Cond.selects "SeatSharesModel" ({ cls := "SeatSharesModel", name := "spare", desc := "(II)I" } : Jvm.MethodName) ({ cls := "SeatSharesModel", name := "spare", desc := "(II)I" } : Jvm.MethodName)) ∈ lw_all := lw_g (lw_at lw_m2 32 rfl) rfl
theorem q300 : (Jvm.Cond.code ({ cls := "SeatSharesModel", name := "spare", desc := "(II)I" } : Jvm.MethodName) prog_3_method_23_code (6 : Nat) (Option.some Jvm.ClassFile.FieldType.int)) ∈ lw_all := lw_g (lw_at lw_m2 33 rfl) rfl
theorem q302 : (Jvm.Cond.instanceMethod ({ cls := "SeatSharesModel", name := "fall", desc := "(I)I" } : Jvm.MethodName)) ∈ lw_all := lw_g (lw_at lw_m2 35 rfl) rfl
theorem q303 : (Jvm.Cond.selects "SeatSharesModel" ({ cls := "SeatSharesModel", name := "fall", desc := "(I)I" } : Jvm.MethodName) ({ cls := "SeatSharesModel", name := "fall", desc := "(I)I" } : Jvm.MethodName)) ∈ lw_all := lw_g (lw_at lw_m2 36 rfl) rfl
theorem q304 : (Jvm.Cond.code ({ cls := "SeatSharesModel", name := "fall", desc := "(I)I" } : Jvm.MethodName) prog_3_method_24_code (4 : Nat) (Option.some Jvm.ClassFile.FieldType.int)) ∈ lw_all := lw_g (lw_at lw_m2 37 rfl) rfl
theorem q306 : (Jvm.Cond.instanceMethod ({ cls := "SeatSharesModel", name := "outside", desc := "(I)I" } : Jvm.MethodName)) ∈ lw_all := lw_g (lw_at lw_m2 39 rfl) rfl
theorem q307 : (Jvm.Cond.selects "SeatSharesModel" ({ cls := "SeatSharesModel", name := "outside", desc := "(I)I" } : Jvm.MethodName) ({ cls := "SeatSharesModel", name := "outside", desc := "(I)I" } : Jvm.MethodName)) ∈ lw_all := lw_g (lw_at lw_m2 40 rfl) rfl
theorem q308 : (Jvm.Cond.code ({ cls := "SeatSharesModel", name := "outside", desc := "(I)I" } : Jvm.MethodName) prog_3_method_25_code (7 : Nat) (Option.some Jvm.ClassFile.FieldType.int)) ∈ lw_all := lw_g (lw_at lw_m2 41 rfl) rfl
theorem q310 : (Jvm.Cond.instanceMethod ({ cls := "SeatSharesModel", name := "moved", desc := "(II)I" } : Jvm.MethodName)) ∈ lw_all := lw_g (lw_at lw_m2 43 rfl) rfl
theorem q311 : (Jvm.Cond.selects "SeatSharesModel" ({ cls := "SeatSharesModel", name := "moved", desc := "(II)I" } : Jvm.MethodName) ({ cls := "SeatSharesModel", name := "moved", desc := "(II)I" } : Jvm.MethodName)) ∈ lw_all := lw_g (lw_at lw_m2 44 rfl) rfl
theorem q312 : (Jvm.Cond.code ({ cls := "SeatSharesModel", name := "moved", desc := "(II)I" } : Jvm.MethodName) prog_3_method_26_code (5 : Nat) (Option.some Jvm.ClassFile.FieldType.int)) ∈ lw_all := lw_g (lw_at lw_m2 45 rfl) rfl
theorem q314 : (Jvm.Cond.instanceMethod ({ cls := "SeatSharesModel", name := "majority", desc := "(I)I" } : Jvm.MethodName)) ∈ lw_all := lw_g (lw_at lw_m2 47 rfl) rfl
theorem q315 : (Jvm.Cond.selects "SeatSharesModel" ({ cls := "SeatSharesModel", name := "majority", desc := "(I)I" } : Jvm.MethodName) ({ cls := "SeatSharesModel", name := "majority", desc := "(I)I" } : Jvm.MethodName)) ∈ lw_all := lw_g (lw_at lw_m2 48 rfl) rfl
theorem q316 : (Jvm.Cond.code ({ cls := "SeatSharesModel", name := "majority", desc := "(I)I" } : Jvm.MethodName) prog_3_method_27_code (7 : Nat) (Option.some Jvm.ClassFile.FieldType.int)) ∈ lw_all := lw_g (lw_at lw_m2 49 rfl) rfl
theorem in_X1 : ∀ w ∈ wsX10, w ∈ lw_all := lw_in wsX10 [200, 202, 204, 206, 208] (by decide +kernel) (by decide +kernel)
end
section
set_option maxRecDepth 100000
/-! java/lang/Object -/
def RJ0 : String := "java/lang/Object"
abbrev cJ0_init : ByteArray := object_method_1_code
def yJ0_init : MethodName := ⟨RJ0, "<init>", "()V"⟩
theorem dJ0_init_0 : decode cJ0_init 0 = .ok (.return_, 1) := by decide +kernel
theorem q36 : (Jvm.Cond.instanceMethod ({ cls := "java/lang/Object", name := "<init>", desc := "()V" } : Jvm.MethodName)) ∈ lw_all := lw_g (lw_at lw_m1 9 rfl) rfl
theorem q37 : (Jvm.Cond.code ({ cls := "java/lang/Object", name := "<init>", desc := "()V" } : Jvm.MethodName) object_method_1_code (1 : Nat) (Option.none : Option Jvm.ClassFile.FieldType)) ∈ lw_all := lw_g (lw_at lw_m1 10 rfl) rfl
theorem q60 : (Jvm.Cond.arrayClass Jvm.ClassFile.FieldType.int) ∈ lw_all := lw_g (lw_at lw_m1 33 rfl) rfl
theorem q61 : (Jvm.Cond.arrayClass Jvm.ClassFile.FieldType.byte) ∈ lw_all := lw_g (lw_at lw_m1 34 rfl) rfl
theorem q27 : (Jvm.Cond.initialized "SeatSharesLaw") ∈ lw_all := lw_g (lw_at lw_m1 0 rfl) rfl
theorem q30 : (Jvm.Cond.classLink "SeatSharesLaw" (7 : Nat) "SeatShares") ∈ lw_all := lw_g (lw_at lw_m1 3 rfl) rfl
theorem q32 : (Jvm.Cond.methodLink "SeatSharesLaw" (9 : Nat) ({ cls := "SeatShares", name := "<init>", desc := "()V" } : Jvm.MethodName)) ∈ lw_all := lw_g (lw_at lw_m1 5 rfl) rfl
theorem q62 : (Jvm.Cond.methodLink "SeatSharesLaw" (13 : Nat) ({ cls := "SeatShares", name := "list", desc := "(I)I" } : Jvm.MethodName)) ∈ lw_all := lw_g (lw_at lw_m1 35 rfl) rfl
theorem q70 : (Jvm.Cond.methodLink "SeatSharesLaw" (18 : Nat) ({ cls := "SeatShares", name := "vote", desc := "(II)I" } : Jvm.MethodName)) ∈ lw_all := lw_g (lw_at lw_m1 43 rfl) rfl
theorem q78 : (Jvm.Cond.methodLink "SeatSharesLaw" (23 : Nat) ({ cls := "SeatShares", name := "join", desc := "(II)I" } : Jvm.MethodName)) ∈ lw_all := lw_g (lw_at lw_m1 51 rfl) rfl
theorem q82 : (Jvm.Cond.methodLink "SeatSharesLaw" (27 : Nat) ({ cls := "SeatShares", name := "seats", desc := "(I)I" } : Jvm.MethodName)) ∈ lw_all := lw_g (lw_at lw_m1 55 rfl) rfl
theorem q86 : (Jvm.Cond.methodLink "SeatSharesLaw" (31 : Nat) ({ cls := "SeatShares", name := "bar", desc := "(I)I" } : Jvm.MethodName)) ∈ lw_all := lw_g (lw_at lw_m1 59 rfl) rfl
theorem q94 : (Jvm.Cond.methodLink "SeatSharesLaw" (35 : Nat) ({ cls := "SeatShares", name := "lists", desc := "()I" } : Jvm.MethodName)) ∈ lw_all := lw_g (lw_at lw_m1 67 rfl) rfl
theorem q98 : (Jvm.Cond.methodLink "SeatSharesLaw" (40 : Nat) ({ cls := "SeatShares", name := "votes", desc := "()I" } : Jvm.MethodName)) ∈ lw_all := lw_g (lw_at lw_m1 71 rfl) rfl
theorem q102 : (Jvm.Cond.methodLink "SeatSharesLaw" (44 : Nat) ({ cls := "SeatShares", name := "share", desc := "(II)I" } : Jvm.MethodName)) ∈ lw_all := lw_g (lw_at lw_m1 75 rfl) rfl
theorem q153 : (Jvm.Cond.methodLink "SeatSharesLaw" (48 : Nat) ({ cls := "SeatShares", name := "next", desc := "(I)I" } : Jvm.MethodName)) ∈ lw_all := lw_g (lw_at lw_m1 126 rfl) rfl
theorem q157 : (Jvm.Cond.methodLink "SeatSharesLaw" (52 : Nat) ({ cls := "SeatShares", name := "missing", desc := "(II)I" } : Jvm.MethodName)) ∈ lw_all := lw_g (lw_at lw_m1 130 rfl) rfl
theorem q165 : (Jvm.Cond.methodLink "SeatSharesLaw" (56 : Nat) ({ cls := "SeatShares", name := "spare", desc := "(II)I" } : Jvm.MethodName)) ∈ lw_all := lw_g (lw_at lw_m1 138 rfl) rfl
theorem q169 : (Jvm.Cond.methodLink "SeatSharesLaw" (60 : Nat) ({ cls := "SeatShares", name := "fall", desc := "(I)I" } : Jvm.MethodName)) ∈ lw_all := lw_g (lw_at lw_m1 142 rfl) rfl
theorem q177 : (Jvm.Cond.methodLink "SeatSharesLaw" (64 : Nat) ({ cls := "SeatShares", name := "outside", desc := "(I)I" } : Jvm.MethodName)) ∈ lw_all := lw_g (lw_at lw_m1 150 rfl) rfl
theorem q181 : (Jvm.Cond.methodLink "SeatSharesLaw" (68 : Nat) ({ cls := "SeatShares", name := "moved", desc := "(II)I" } : Jvm.MethodName)) ∈ lw_all := lw_g (lw_at lw_m1 154 rfl) rfl
theorem q185 : (Jvm.Cond.methodLink "SeatSharesLaw" (72 : Nat) ({ cls := "SeatShares", name := "majority", desc := "(I)I" } : Jvm.MethodName)) ∈ lw_all := lw_g (lw_at lw_m1 158 rfl) rfl
theorem q189 : (Jvm.Cond.classLink "SeatSharesLaw" (10 : Nat) "SeatSharesModel") ∈ lw_all := lw_g (lw_at lw_m1 162 rfl) rfl
theorem q191 : (Jvm.Cond.methodLink "SeatSharesLaw" (12 : Nat) ({ cls := "SeatSharesModel", name := "<init>", desc := "()V" } : Jvm.MethodName)) ∈ lw_all := lw_g (lw_at lw_m1 164 rfl) rfl
theorem q211 : (Jvm.Cond.methodLink "SeatSharesLaw" (17 : Nat) ({ cls := "SeatSharesModel", name := "list", desc := "(I)I" } : Jvm.MethodName)) ∈ lw_all := lw_g (lw_at lw_m1 184 rfl) rfl
theorem q219 : (Jvm.Cond.methodLink "SeatSharesLaw" (22 : Nat) ({ cls := "SeatSharesModel", name := "vote", desc := "(II)I" } : Jvm.MethodName)) ∈ lw_all := lw_g (lw_at lw_m1 192 rfl) rfl
theorem q227 : (Jvm.Cond.methodLink "SeatSharesLaw" (26 : Nat) ({ cls := "SeatSharesModel", name := "join", desc := "(II)I" } : Jvm.MethodName)) ∈ lw_all := lw_g (lw_at lw_m1 200 rfl) rfl
theorem q231 : (Jvm.Cond.methodLink "SeatSharesLaw" (30 : Nat) ({ cls := "SeatSharesModel", name := "seats", desc := "(I)I" } : Jvm.MethodName)) ∈ lw_all := lw_g (lw_at lw_m1 204 rfl) rfl
theorem q235 : (Jvm.Cond.methodLink "SeatSharesLaw" (34 : Nat) ({ cls := "SeatSharesModel", name := "bar", desc := "(I)I" } : Jvm.MethodName)) ∈ lw_all := lw_g (lw_at lw_m1 208 rfl) rfl
theorem q243 : (Jvm.Cond.methodLink "SeatSharesLaw" (39 : Nat) ({ cls := "SeatSharesModel", name := "lists", desc := "()I" } : Jvm.MethodName)) ∈ lw_all := lw_g (lw_at lw_m1 216 rfl) rfl
theorem q247 : (Jvm.Cond.methodLink "SeatSharesLaw" (43 : Nat) ({ cls := "SeatSharesModel", name := "votes", desc := "()I" } : Jvm.MethodName)) ∈ lw_all := lw_g (lw_at lw_m1 220 rfl) rfl
theorem q248 : (Jvm.Cond.methodLink "SeatSharesLaw" (47 : Nat) ({ cls := "SeatSharesModel", name := "share", desc := "(II)I" } : Jvm.MethodName)) ∈ lw_all := lw_g (lw_at lw_m1 221 rfl) rfl
theorem q281 : (Jvm.Cond.methodLink "SeatSharesLaw" (51 : Nat) ({ cls := "SeatSharesModel", name := "next", desc := "(I)I" } : Jvm.MethodName)) ∈ lw_all := lw_g (lw_at lw_m2 14 rfl) rfl
theorem q289 : (Jvm.Cond.methodLink "SeatSharesLaw" (55 : Nat) ({ cls := "SeatSharesModel", name := "missing", desc := "(II)I" } : Jvm.MethodName)) ∈ lw_all := lw_g (lw_at lw_m2 22 rfl) rfl
theorem q297 : (Jvm.Cond.methodLink "SeatSharesLaw" (59 : Nat) ({ cls := "SeatSharesModel", name := "spare", desc := "(II)I" } : Jvm.MethodName)) ∈ lw_all := lw_g (lw_at lw_m2 30 rfl) rfl
theorem q301 : (Jvm.Cond.methodLink "SeatSharesLaw" (63 : Nat) ({ cls := "SeatSharesModel", name := "fall", desc := "(I)I" } : Jvm.MethodName)) ∈ lw_all := lw_g (lw_at lw_m2 34 rfl) rfl
theorem q305 : (Jvm.Cond.methodLink "SeatSharesLaw" (67 : Nat) ({ cls := "SeatSharesModel", name := "outside", desc := "(I)I" } : Jvm.MethodName)) ∈ lw_all := lw_g (lw_at lw_m2 38 rfl) rfl
theorem q309 : (Jvm.Cond.methodLink "SeatSharesLaw" (71 : Nat) ({ cls := "SeatSharesModel", name := "moved", desc := "(II)I" } : Jvm.MethodName)) ∈ lw_all := lw_g (lw_at lw_m2 42 rfl) rfl
theorem q313 : (Jvm.Cond.methodLink "SeatSharesLaw" (75 : Nat) ({ cls := "SeatSharesModel", name := "majority", desc := "(I)I" } : Jvm.MethodName)) ∈ lw_all := lw_g (lw_at lw_m2 46 rfl) rfl
/-! the law's own entry -/
abbrev cL_law : ByteArray := code
theorem dL_law_0 : decode cL_law 0 = .ok (.new 7, 3) := by decide +kernel
theorem dL_law_3 : decode cL_law 3 = .ok (.dup, 1) := by decide +kernel
theorem dL_law_4 : decode cL_law 4 = .ok (.invokespecial 9, 3) := by decide +kernel
theorem dL_law_7 : decode cL_law 7 = .ok (.astore_n 1, 1) := by decide +kernel
theorem dL_law_8 : decode cL_law 8 = .ok (.new 10, 3) := by decide +kernel
theorem dL_law_11 : decode cL_law 11 = .ok (.dup, 1) := by decide +kernel
theorem dL_law_12 : decode cL_law 12 = .ok (.invokespecial 12, 3) := by decide +kernel
theorem dL_law_15 : decode cL_law 15 = .ok (.astore_n 2, 1) := by decide +kernel
theorem dL_law_16 : decode cL_law 16 = .ok (.iconst 0, 1) := by decide +kernel
theorem dL_law_17 : decode cL_law 17 = .ok (.istore_n 3, 1) := by decide +kernel
theorem dL_law_18 : decode cL_law 18 = .ok (.iload_n 3, 1) := by decide +kernel
theorem dL_law_19 : decode cL_law 19 = .ok (.aload_n 0, 1) := by decide +kernel
theorem dL_law_20 : decode cL_law 20 = .ok (.arraylength, 1) := by decide +kernel
theorem dL_law_21 : decode cL_law 21 = .ok (.iconst 3, 1) := by decide +kernel
theorem dL_law_22 : decode cL_law 22 = .ok (.isub, 1) := by decide +kernel
theorem dL_law_23 : decode cL_law 23 = .ok (.if_icmp .gt 476, 3) := by decide +kernel
theorem dL_law_26 : decode cL_law 26 = .ok (.aload_n 0, 1) := by decide +kernel
theorem dL_law_27 : decode cL_law 27 = .ok (.iload_n 3, 1) := by decide +kernel
theorem dL_law_28 : decode cL_law 28 = .ok (.iaload, 1) := by decide +kernel
theorem dL_law_29 : decode cL_law 29 = .ok (.bipush 15, 2) := by decide +kernel
theorem dL_law_31 : decode cL_law 31 = .ok (.iand, 1) := by decide +kernel
theorem dL_law_32 : decode cL_law 32 = .ok (.tableswitch 461 0 14 #[76, 99, 132, 165, 188, 211, 224, 237, 270, 293, 326, 359, 382, 405, 438], 76) := by decide +kernel
theorem dL_law_108 : decode cL_law 108 = .ok (.aload_n 1, 1) := by decide +kernel
theorem dL_law_109 : decode cL_law 109 = .ok (.aload_n 0, 1) := by decide +kernel
theorem dL_law_110 : decode cL_law 110 = .ok (.iload_n 3, 1) := by decide +kernel
theorem dL_law_111 : decode cL_law 111 = .ok (.iconst 1, 1) := by decide +kernel
theorem dL_law_112 : decode cL_law 112 = .ok (.iadd, 1) := by decide +kernel
theorem dL_law_113 : decode cL_law 113 = .ok (.iaload, 1) := by decide +kernel
theorem dL_law_114 : decode cL_law 114 = .ok (.invokevirtual 13, 3) := by decide +kernel
theorem dL_law_117 : decode cL_law 117 = .ok (.aload_n 2, 1) := by decide +kernel
theorem dL_law_118 : decode cL_law 118 = .ok (.aload_n 0, 1) := by decide +kernel
theorem dL_law_119 : decode cL_law 119 = .ok (.iload_n 3, 1) := by decide +kernel
theorem dL_law_120 : decode cL_law 120 = .ok (.iconst 1, 1) := by decide +kernel
theorem dL_law_121 : decode cL_law 121 = .ok (.iadd, 1) := by decide +kernel
theorem dL_law_122 : decode cL_law 122 = .ok (.iaload, 1) := by decide +kernel
theorem dL_law_123 : decode cL_law 123 = .ok (.invokevirtual 17, 3) := by decide +kernel
theorem dL_law_126 : decode cL_law 126 = .ok (.if_icmp .eq 367, 3) := by decide +kernel
theorem dL_law_129 : decode cL_law 129 = .ok (.iconst 0, 1) := by decide +kernel
theorem dL_law_130 : decode cL_law 130 = .ok (.ireturn, 1) := by decide +kernel
theorem dL_law_131 : decode cL_law 131 = .ok (.aload_n 1, 1) := by decide +kernel
theorem dL_law_132 : decode cL_law 132 = .ok (.aload_n 0, 1) := by decide +kernel
theorem dL_law_133 : decode cL_law 133 = .ok (.iload_n 3, 1) := by decide +kernel
theorem dL_law_134 : decode cL_law 134 = .ok (.iconst 1, 1) := by decide +kernel
theorem dL_law_135 : decode cL_law 135 = .ok (.iadd, 1) := by decide +kernel
theorem dL_law_136 : decode cL_law 136 = .ok (.iaload, 1) := by decide +kernel
theorem dL_law_137 : decode cL_law 137 = .ok (.aload_n 0, 1) := by decide +kernel
theorem dL_law_138 : decode cL_law 138 = .ok (.iload_n 3, 1) := by decide +kernel
theorem dL_law_139 : decode cL_law 139 = .ok (.iconst 2, 1) := by decide +kernel
theorem dL_law_140 : decode cL_law 140 = .ok (.iadd, 1) := by decide +kernel
theorem dL_law_141 : decode cL_law 141 = .ok (.iaload, 1) := by decide +kernel
theorem dL_law_142 : decode cL_law 142 = .ok (.invokevirtual 18, 3) := by decide +kernel
theorem dL_law_145 : decode cL_law 145 = .ok (.aload_n 2, 1) := by decide +kernel
theorem dL_law_146 : decode cL_law 146 = .ok (.aload_n 0, 1) := by decide +kernel
theorem dL_law_147 : decode cL_law 147 = .ok (.iload_n 3, 1) := by decide +kernel
theorem dL_law_148 : decode cL_law 148 = .ok (.iconst 1, 1) := by decide +kernel
theorem dL_law_149 : decode cL_law 149 = .ok (.iadd, 1) := by decide +kernel
theorem dL_law_150 : decode cL_law 150 = .ok (.iaload, 1) := by decide +kernel
theorem dL_law_151 : decode cL_law 151 = .ok (.aload_n 0, 1) := by decide +kernel
theorem dL_law_152 : decode cL_law 152 = .ok (.iload_n 3, 1) := by decide +kernel
theorem dL_law_153 : decode cL_law 153 = .ok (.iconst 2, 1) := by decide +kernel
theorem dL_law_154 : decode cL_law 154 = .ok (.iadd, 1) := by decide +kernel
theorem dL_law_155 : decode cL_law 155 = .ok (.iaload, 1) := by decide +kernel
theorem dL_law_156 : decode cL_law 156 = .ok (.invokevirtual 22, 3) := by decide +kernel
theorem dL_law_159 : decode cL_law 159 = .ok (.if_icmp .eq 334, 3) := by decide +kernel
theorem dL_law_162 : decode cL_law 162 = .ok (.iconst 0, 1) := by decide +kernel
theorem dL_law_163 : decode cL_law 163 = .ok (.ireturn, 1) := by decide +kernel
theorem dL_law_164 : decode cL_law 164 = .ok (.aload_n 1, 1) := by decide +kernel
theorem dL_law_165 : decode cL_law 165 = .ok (.aload_n 0, 1) := by decide +kernel
theorem dL_law_166 : decode cL_law 166 = .ok (.iload_n 3, 1) := by decide +kernel
theorem dL_law_167 : decode cL_law 167 = .ok (.iconst 1, 1) := by decide +kernel
theorem dL_law_168 : decode cL_law 168 = .ok (.iadd, 1) := by decide +kernel
theorem dL_law_169 : decode cL_law 169 = .ok (.iaload, 1) := by decide +kernel
theorem dL_law_170 : decode cL_law 170 = .ok (.aload_n 0, 1) := by decide +kernel
theorem dL_law_171 : decode cL_law 171 = .ok (.iload_n 3, 1) := by decide +kernel
theorem dL_law_172 : decode cL_law 172 = .ok (.iconst 2, 1) := by decide +kernel
theorem dL_law_173 : decode cL_law 173 = .ok (.iadd, 1) := by decide +kernel
theorem dL_law_174 : decode cL_law 174 = .ok (.iaload, 1) := by decide +kernel
theorem dL_law_175 : decode cL_law 175 = .ok (.invokevirtual 23, 3) := by decide +kernel
theorem dL_law_178 : decode cL_law 178 = .ok (.aload_n 2, 1) := by decide +kernel
theorem dL_law_179 : decode cL_law 179 = .ok (.aload_n 0, 1) := by decide +kernel
theorem dL_law_180 : decode cL_law 180 = .ok (.iload_n 3, 1) := by decide +kernel
theorem dL_law_181 : decode cL_law 181 = .ok (.iconst 1, 1) := by decide +kernel
theorem dL_law_182 : decode cL_law 182 = .ok (.iadd, 1) := by decide +kernel
theorem dL_law_183 : decode cL_law 183 = .ok (.iaload, 1) := by decide +kernel
theorem dL_law_184 : decode cL_law 184 = .ok (.aload_n 0, 1) := by decide +kernel
theorem dL_law_185 : decode cL_law 185 = .ok (.iload_n 3, 1) := by decide +kernel
theorem dL_law_186 : decode cL_law 186 = .ok (.iconst 2, 1) := by decide +kernel
theorem dL_law_187 : decode cL_law 187 = .ok (.iadd, 1) := by decide +kernel
theorem dL_law_188 : decode cL_law 188 = .ok (.iaload, 1) := by decide +kernel
theorem dL_law_189 : decode cL_law 189 = .ok (.invokevirtual 26, 3) := by decide +kernel
theorem dL_law_192 : decode cL_law 192 = .ok (.if_icmp .eq 301, 3) := by decide +kernel
theorem dL_law_195 : decode cL_law 195 = .ok (.iconst 0, 1) := by decide +kernel
theorem dL_law_196 : decode cL_law 196 = .ok (.ireturn, 1) := by decide +kernel
theorem dL_law_197 : decode cL_law 197 = .ok (.aload_n 1, 1) := by decide +kernel
theorem dL_law_198 : decode cL_law 198 = .ok (.aload_n 0, 1) := by decide +kernel
theorem dL_law_199 : decode cL_law 199 = .ok (.iload_n 3, 1) := by decide +kernel
theorem dL_law_200 : decode cL_law 200 = .ok (.iconst 1, 1) := by decide +kernel
theorem dL_law_201 : decode cL_law 201 = .ok (.iadd, 1) := by decide +kernel
theorem dL_law_202 : decode cL_law 202 = .ok (.iaload, 1) := by decide +kernel
theorem dL_law_203 : decode cL_law 203 = .ok (.invokevirtual 27, 3) := by decide +kernel
theorem dL_law_206 : decode cL_law 206 = .ok (.aload_n 2, 1) := by decide +kernel
theorem dL_law_207 : decode cL_law 207 = .ok (.aload_n 0, 1) := by decide +kernel
theorem dL_law_208 : decode cL_law 208 = .ok (.iload_n 3, 1) := by decide +kernel
theorem dL_law_209 : decode cL_law 209 = .ok (.iconst 1, 1) := by decide +kernel
theorem dL_law_210 : decode cL_law 210 = .ok (.iadd, 1) := by decide +kernel
theorem dL_law_211 : decode cL_law 211 = .ok (.iaload, 1) := by decide +kernel
theorem dL_law_212 : decode cL_law 212 = .ok (.invokevirtual 30, 3) := by decide +kernel
theorem dL_law_215 : decode cL_law 215 = .ok (.if_icmp .eq 278, 3) := by decide +kernel
theorem dL_law_218 : decode cL_law 218 = .ok (.iconst 0, 1) := by decide +kernel
theorem dL_law_219 : decode cL_law 219 = .ok (.ireturn, 1) := by decide +kernel
theorem dL_law_220 : decode cL_law 220 = .ok (.aload_n 1, 1) := by decide +kernel
theorem dL_law_221 : decode cL_law 221 = .ok (.aload_n 0, 1) := by decide +kernel
theorem dL_law_222 : decode cL_law 222 = .ok (.iload_n 3, 1) := by decide +kernel
theorem dL_law_223 : decode cL_law 223 = .ok (.iconst 1, 1) := by decide +kernel
theorem dL_law_224 : decode cL_law 224 = .ok (.iadd, 1) := by decide +kernel
theorem dL_law_225 : decode cL_law 225 = .ok (.iaload, 1) := by decide +kernel
theorem dL_law_226 : decode cL_law 226 = .ok (.invokevirtual 31, 3) := by decide +kernel
theorem dL_law_229 : decode cL_law 229 = .ok (.aload_n 2, 1) := by decide +kernel
theorem dL_law_230 : decode cL_law 230 = .ok (.aload_n 0, 1) := by decide +kernel
theorem dL_law_231 : decode cL_law 231 = .ok (.iload_n 3, 1) := by decide +kernel
theorem dL_law_232 : decode cL_law 232 = .ok (.iconst 1, 1) := by decide +kernel
theorem dL_law_233 : decode cL_law 233 = .ok (.iadd, 1) := by decide +kernel
theorem dL_law_234 : decode cL_law 234 = .ok (.iaload, 1) := by decide +kernel
theorem dL_law_235 : decode cL_law 235 = .ok (.invokevirtual 34, 3) := by decide +kernel
theorem dL_law_238 : decode cL_law 238 = .ok (.if_icmp .eq 255, 3) := by decide +kernel
theorem dL_law_241 : decode cL_law 241 = .ok (.iconst 0, 1) := by decide +kernel
theorem dL_law_242 : decode cL_law 242 = .ok (.ireturn, 1) := by decide +kernel
theorem dL_law_243 : decode cL_law 243 = .ok (.aload_n 1, 1) := by decide +kernel
theorem dL_law_244 : decode cL_law 244 = .ok (.invokevirtual 35, 3) := by decide +kernel
theorem dL_law_247 : decode cL_law 247 = .ok (.aload_n 2, 1) := by decide +kernel
theorem dL_law_248 : decode cL_law 248 = .ok (.invokevirtual 39, 3) := by decide +kernel
theorem dL_law_251 : decode cL_law 251 = .ok (.if_icmp .eq 242, 3) := by decide +kernel
theorem dL_law_254 : decode cL_law 254 = .ok (.iconst 0, 1) := by decide +kernel
theorem dL_law_255 : decode cL_law 255 = .ok (.ireturn, 1) := by decide +kernel
theorem dL_law_256 : decode cL_law 256 = .ok (.aload_n 1, 1) := by decide +kernel
theorem dL_law_257 : decode cL_law 257 = .ok (.invokevirtual 40, 3) := by decide +kernel
theorem dL_law_260 : decode cL_law 260 = .ok (.aload_n 2, 1) := by decide +kernel
theorem dL_law_261 : decode cL_law 261 = .ok (.invokevirtual 43, 3) := by decide +kernel
theorem dL_law_264 : decode cL_law 264 = .ok (.if_icmp .eq 229, 3) := by decide +kernel
theorem dL_law_267 : decode cL_law 267 = .ok (.iconst 0, 1) := by decide +kernel
theorem dL_law_268 : decode cL_law 268 = .ok (.ireturn, 1) := by decide +kernel
theorem dL_law_269 : decode cL_law 269 = .ok (.aload_n 1, 1) := by decide +kernel
theorem dL_law_270 : decode cL_law 270 = .ok (.aload_n 0, 1) := by decide +kernel
theorem dL_law_271 : decode cL_law 271 = .ok (.iload_n 3, 1) := by decide +kernel
theorem dL_law_272 : decode cL_law 272 = .ok (.iconst 1, 1) := by decide +kernel
theorem dL_law_273 : decode cL_law 273 = .ok (.iadd, 1) := by decide +kernel
theorem dL_law_274 : decode cL_law 274 = .ok (.iaload, 1) := by decide +kernel
theorem dL_law_275 : decode cL_law 275 = .ok (.aload_n 0, 1) := by decide +kernel
theorem dL_law_276 : decode cL_law 276 = .ok (.iload_n 3, 1) := by decide +kernel
theorem dL_law_277 : decode cL_law 277 = .ok (.iconst 2, 1) := by decide +kernel
theorem dL_law_278 : decode cL_law 278 = .ok (.iadd, 1) := by decide +kernel
theorem dL_law_279 : decode cL_law 279 = .ok (.iaload, 1) := by decide +kernel
theorem dL_law_280 : decode cL_law 280 = .ok (.invokevirtual 44, 3) := by decide +kernel
theorem dL_law_283 : decode cL_law 283 = .ok (.aload_n 2, 1) := by decide +kernel
theorem dL_law_284 : decode cL_law 284 = .ok (.aload_n 0, 1) := by decide +kernel
theorem dL_law_285 : decode cL_law 285 = .ok (.iload_n 3, 1) := by decide +kernel
theorem dL_law_286 : decode cL_law 286 = .ok (.iconst 1, 1) := by decide +kernel
theorem dL_law_287 : decode cL_law 287 = .ok (.iadd, 1) := by decide +kernel
theorem dL_law_288 : decode cL_law 288 = .ok (.iaload, 1) := by decide +kernel
theorem dL_law_289 : decode cL_law 289 = .ok (.aload_n 0, 1) := by decide +kernel
theorem dL_law_290 : decode cL_law 290 = .ok (.iload_n 3, 1) := by decide +kernel
theorem dL_law_291 : decode cL_law 291 = .ok (.iconst 2, 1) := by decide +kernel
theorem dL_law_292 : decode cL_law 292 = .ok (.iadd, 1) := by decide +kernel
theorem dL_law_293 : decode cL_law 293 = .ok (.iaload, 1) := by decide +kernel
theorem dL_law_294 : decode cL_law 294 = .ok (.invokevirtual 47, 3) := by decide +kernel
theorem dL_law_297 : decode cL_law 297 = .ok (.if_icmp .eq 196, 3) := by decide +kernel
theorem dL_law_300 : decode cL_law 300 = .ok (.iconst 0, 1) := by decide +kernel
theorem dL_law_301 : decode cL_law 301 = .ok (.ireturn, 1) := by decide +kernel
theorem dL_law_302 : decode cL_law 302 = .ok (.aload_n 1, 1) := by decide +kernel
theorem dL_law_303 : decode cL_law 303 = .ok (.aload_n 0, 1) := by decide +kernel
theorem dL_law_304 : decode cL_law 304 = .ok (.iload_n 3, 1) := by decide +kernel
theorem dL_law_305 : decode cL_law 305 = .ok (.iconst 1, 1) := by decide +kernel
theorem dL_law_306 : decode cL_law 306 = .ok (.iadd, 1) := by decide +kernel
theorem dL_law_307 : decode cL_law 307 = .ok (.iaload, 1) := by decide +kernel
theorem dL_law_308 : decode cL_law 308 = .ok (.invokevirtual 48, 3) := by decide +kernel
theorem dL_law_311 : decode cL_law 311 = .ok (.aload_n 2, 1) := by decide +kernel
theorem dL_law_312 : decode cL_law 312 = .ok (.aload_n 0, 1) := by decide +kernel
theorem dL_law_313 : decode cL_law 313 = .ok (.iload_n 3, 1) := by decide +kernel
theorem dL_law_314 : decode cL_law 314 = .ok (.iconst 1, 1) := by decide +kernel
theorem dL_law_315 : decode cL_law 315 = .ok (.iadd, 1) := by decide +kernel
theorem dL_law_316 : decode cL_law 316 = .ok (.iaload, 1) := by decide +kernel
theorem dL_law_317 : decode cL_law 317 = .ok (.invokevirtual 51, 3) := by decide +kernel
theorem dL_law_320 : decode cL_law 320 = .ok (.if_icmp .eq 173, 3) := by decide +kernel
theorem dL_law_323 : decode cL_law 323 = .ok (.iconst 0, 1) := by decide +kernel
theorem dL_law_324 : decode cL_law 324 = .ok (.ireturn, 1) := by decide +kernel
theorem dL_law_325 : decode cL_law 325 = .ok (.aload_n 1, 1) := by decide +kernel
theorem dL_law_326 : decode cL_law 326 = .ok (.aload_n 0, 1) := by decide +kernel
theorem dL_law_327 : decode cL_law 327 = .ok (.iload_n 3, 1) := by decide +kernel
theorem dL_law_328 : decode cL_law 328 = .ok (.iconst 1, 1) := by decide +kernel
theorem dL_law_329 : decode cL_law 329 = .ok (.iadd, 1) := by decide +kernel
theorem dL_law_330 : decode cL_law 330 = .ok (.iaload, 1) := by decide +kernel
theorem dL_law_331 : decode cL_law 331 = .ok (.aload_n 0, 1) := by decide +kernel
theorem dL_law_332 : decode cL_law 332 = .ok (.iload_n 3, 1) := by decide +kernel
theorem dL_law_333 : decode cL_law 333 = .ok (.iconst 2, 1) := by decide +kernel
theorem dL_law_334 : decode cL_law 334 = .ok (.iadd, 1) := by decide +kernel
theorem dL_law_335 : decode cL_law 335 = .ok (.iaload, 1) := by decide +kernel
theorem dL_law_336 : decode cL_law 336 = .ok (.invokevirtual 52, 3) := by decide +kernel
theorem dL_law_339 : decode cL_law 339 = .ok (.aload_n 2, 1) := by decide +kernel
theorem dL_law_340 : decode cL_law 340 = .ok (.aload_n 0, 1) := by decide +kernel
theorem dL_law_341 : decode cL_law 341 = .ok (.iload_n 3, 1) := by decide +kernel
theorem dL_law_342 : decode cL_law 342 = .ok (.iconst 1, 1) := by decide +kernel
theorem dL_law_343 : decode cL_law 343 = .ok (.iadd, 1) := by decide +kernel
theorem dL_law_344 : decode cL_law 344 = .ok (.iaload, 1) := by decide +kernel
theorem dL_law_345 : decode cL_law 345 = .ok (.aload_n 0, 1) := by decide +kernel
theorem dL_law_346 : decode cL_law 346 = .ok (.iload_n 3, 1) := by decide +kernel
theorem dL_law_347 : decode cL_law 347 = .ok (.iconst 2, 1) := by decide +kernel
theorem dL_law_348 : decode cL_law 348 = .ok (.iadd, 1) := by decide +kernel
theorem dL_law_349 : decode cL_law 349 = .ok (.iaload, 1) := by decide +kernel
theorem dL_law_350 : decode cL_law 350 = .ok (.invokevirtual 55, 3) := by decide +kernel
theorem dL_law_353 : decode cL_law 353 = .ok (.if_icmp .eq 140, 3) := by decide +kernel
theorem dL_law_356 : decode cL_law 356 = .ok (.iconst 0, 1) := by decide +kernel
theorem dL_law_357 : decode cL_law 357 = .ok (.ireturn, 1) := by decide +kernel
theorem dL_law_358 : decode cL_law 358 = .ok (.aload_n 1, 1) := by decide +kernel
theorem dL_law_359 : decode cL_law 359 = .ok (.aload_n 0, 1) := by decide +kernel
theorem dL_law_360 : decode cL_law 360 = .ok (.iload_n 3, 1) := by decide +kernel
theorem dL_law_361 : decode cL_law 361 = .ok (.iconst 1, 1) := by decide +kernel
theorem dL_law_362 : decode cL_law 362 = .ok (.iadd, 1) := by decide +kernel
theorem dL_law_363 : decode cL_law 363 = .ok (.iaload, 1) := by decide +kernel
theorem dL_law_364 : decode cL_law 364 = .ok (.aload_n 0, 1) := by decide +kernel
theorem dL_law_365 : decode cL_law 365 = .ok (.iload_n 3, 1) := by decide +kernel
theorem dL_law_366 : decode cL_law 366 = .ok (.iconst 2, 1) := by decide +kernel
theorem dL_law_367 : decode cL_law 367 = .ok (.iadd, 1) := by decide +kernel
theorem dL_law_368 : decode cL_law 368 = .ok (.iaload, 1) := by decide +kernel
theorem dL_law_369 : decode cL_law 369 = .ok (.invokevirtual 56, 3) := by decide +kernel
theorem dL_law_372 : decode cL_law 372 = .ok (.aload_n 2, 1) := by decide +kernel
theorem dL_law_373 : decode cL_law 373 = .ok (.aload_n 0, 1) := by decide +kernel
theorem dL_law_374 : decode cL_law 374 = .ok (.iload_n 3, 1) := by decide +kernel
theorem dL_law_375 : decode cL_law 375 = .ok (.iconst 1, 1) := by decide +kernel
theorem dL_law_376 : decode cL_law 376 = .ok (.iadd, 1) := by decide +kernel
theorem dL_law_377 : decode cL_law 377 = .ok (.iaload, 1) := by decide +kernel
theorem dL_law_378 : decode cL_law 378 = .ok (.aload_n 0, 1) := by decide +kernel
theorem dL_law_379 : decode cL_law 379 = .ok (.iload_n 3, 1) := by decide +kernel
theorem dL_law_380 : decode cL_law 380 = .ok (.iconst 2, 1) := by decide +kernel
theorem dL_law_381 : decode cL_law 381 = .ok (.iadd, 1) := by decide +kernel
theorem dL_law_382 : decode cL_law 382 = .ok (.iaload, 1) := by decide +kernel
theorem dL_law_383 : decode cL_law 383 = .ok (.invokevirtual 59, 3) := by decide +kernel
theorem dL_law_386 : decode cL_law 386 = .ok (.if_icmp .eq 107, 3) := by decide +kernel
theorem dL_law_389 : decode cL_law 389 = .ok (.iconst 0, 1) := by decide +kernel
theorem dL_law_390 : decode cL_law 390 = .ok (.ireturn, 1) := by decide +kernel
theorem dL_law_391 : decode cL_law 391 = .ok (.aload_n 1, 1) := by decide +kernel
theorem dL_law_392 : decode cL_law 392 = .ok (.aload_n 0, 1) := by decide +kernel
theorem dL_law_393 : decode cL_law 393 = .ok (.iload_n 3, 1) := by decide +kernel
theorem dL_law_394 : decode cL_law 394 = .ok (.iconst 1, 1) := by decide +kernel
theorem dL_law_395 : decode cL_law 395 = .ok (.iadd, 1) := by decide +kernel
theorem dL_law_396 : decode cL_law 396 = .ok (.iaload, 1) := by decide +kernel
theorem dL_law_397 : decode cL_law 397 = .ok (.invokevirtual 60, 3) := by decide +kernel
theorem dL_law_400 : decode cL_law 400 = .ok (.aload_n 2, 1) := by decide +kernel
theorem dL_law_401 : decode cL_law 401 = .ok (.aload_n 0, 1) := by decide +kernel
theorem dL_law_402 : decode cL_law 402 = .ok (.iload_n 3, 1) := by decide +kernel
theorem dL_law_403 : decode cL_law 403 = .ok (.iconst 1, 1) := by decide +kernel
theorem dL_law_404 : decode cL_law 404 = .ok (.iadd, 1) := by decide +kernel
theorem dL_law_405 : decode cL_law 405 = .ok (.iaload, 1) := by decide +kernel
theorem dL_law_406 : decode cL_law 406 = .ok (.invokevirtual 63, 3) := by decide +kernel
theorem dL_law_409 : decode cL_law 409 = .ok (.if_icmp .eq 84, 3) := by decide +kernel
theorem dL_law_412 : decode cL_law 412 = .ok (.iconst 0, 1) := by decide +kernel
theorem dL_law_413 : decode cL_law 413 = .ok (.ireturn, 1) := by decide +kernel
theorem dL_law_414 : decode cL_law 414 = .ok (.aload_n 1, 1) := by decide +kernel
theorem dL_law_415 : decode cL_law 415 = .ok (.aload_n 0, 1) := by decide +kernel
theorem dL_law_416 : decode cL_law 416 = .ok (.iload_n 3, 1) := by decide +kernel
theorem dL_law_417 : decode cL_law 417 = .ok (.iconst 1, 1) := by decide +kernel
theorem dL_law_418 : decode cL_law 418 = .ok (.iadd, 1) := by decide +kernel
theorem dL_law_419 : decode cL_law 419 = .ok (.iaload, 1) := by decide +kernel
theorem dL_law_420 : decode cL_law 420 = .ok (.invokevirtual 64, 3) := by decide +kernel
theorem dL_law_423 : decode cL_law 423 = .ok (.aload_n 2, 1) := by decide +kernel
theorem dL_law_424 : decode cL_law 424 = .ok (.aload_n 0, 1) := by decide +kernel
theorem dL_law_425 : decode cL_law 425 = .ok (.iload_n 3, 1) := by decide +kernel
theorem dL_law_426 : decode cL_law 426 = .ok (.iconst 1, 1) := by decide +kernel
theorem dL_law_427 : decode cL_law 427 = .ok (.iadd, 1) := by decide +kernel
theorem dL_law_428 : decode cL_law 428 = .ok (.iaload, 1) := by decide +kernel
theorem dL_law_429 : decode cL_law 429 = .ok (.invokevirtual 67, 3) := by decide +kernel
theorem dL_law_432 : decode cL_law 432 = .ok (.if_icmp .eq 61, 3) := by decide +kernel
theorem dL_law_435 : decode cL_law 435 = .ok (.iconst 0, 1) := by decide +kernel
theorem dL_law_436 : decode cL_law 436 = .ok (.ireturn, 1) := by decide +kernel
theorem dL_law_437 : decode cL_law 437 = .ok (.aload_n 1, 1) := by decide +kernel
theorem dL_law_438 : decode cL_law 438 = .ok (.aload_n 0, 1) := by decide +kernel
theorem dL_law_439 : decode cL_law 439 = .ok (.iload_n 3, 1) := by decide +kernel
theorem dL_law_440 : decode cL_law 440 = .ok (.iconst 1, 1) := by decide +kernel
theorem dL_law_441 : decode cL_law 441 = .ok (.iadd, 1) := by decide +kernel
theorem dL_law_442 : decode cL_law 442 = .ok (.iaload, 1) := by decide +kernel
theorem dL_law_443 : decode cL_law 443 = .ok (.aload_n 0, 1) := by decide +kernel
theorem dL_law_444 : decode cL_law 444 = .ok (.iload_n 3, 1) := by decide +kernel
theorem dL_law_445 : decode cL_law 445 = .ok (.iconst 2, 1) := by decide +kernel
theorem dL_law_446 : decode cL_law 446 = .ok (.iadd, 1) := by decide +kernel
theorem dL_law_447 : decode cL_law 447 = .ok (.iaload, 1) := by decide +kernel
theorem dL_law_448 : decode cL_law 448 = .ok (.invokevirtual 68, 3) := by decide +kernel
theorem dL_law_451 : decode cL_law 451 = .ok (.aload_n 2, 1) := by decide +kernel
theorem dL_law_452 : decode cL_law 452 = .ok (.aload_n 0, 1) := by decide +kernel
theorem dL_law_453 : decode cL_law 453 = .ok (.iload_n 3, 1) := by decide +kernel
theorem dL_law_454 : decode cL_law 454 = .ok (.iconst 1, 1) := by decide +kernel
theorem dL_law_455 : decode cL_law 455 = .ok (.iadd, 1) := by decide +kernel
theorem dL_law_456 : decode cL_law 456 = .ok (.iaload, 1) := by decide +kernel
theorem dL_law_457 : decode cL_law 457 = .ok (.aload_n 0, 1) := by decide +kernel
theorem dL_law_458 : decode cL_law 458 = .ok (.iload_n 3, 1) := by decide +kernel
theorem dL_law_459 : decode cL_law 459 = .ok (.iconst 2, 1) := by decide +kernel
theorem dL_law_460 : decode cL_law 460 = .ok (.iadd, 1) := by decide +kernel
theorem dL_law_461 : decode cL_law 461 = .ok (.iaload, 1) := by decide +kernel
theorem dL_law_462 : decode cL_law 462 = .ok (.invokevirtual 71, 3) := by decide +kernel
theorem dL_law_465 : decode cL_law 465 = .ok (.if_icmp .eq 28, 3) := by decide +kernel
theorem dL_law_468 : decode cL_law 468 = .ok (.iconst 0, 1) := by decide +kernel
theorem dL_law_469 : decode cL_law 469 = .ok (.ireturn, 1) := by decide +kernel
theorem dL_law_470 : decode cL_law 470 = .ok (.aload_n 1, 1) := by decide +kernel
theorem dL_law_471 : decode cL_law 471 = .ok (.aload_n 0, 1) := by decide +kernel
theorem dL_law_472 : decode cL_law 472 = .ok (.iload_n 3, 1) := by decide +kernel
theorem dL_law_473 : decode cL_law 473 = .ok (.iconst 1, 1) := by decide +kernel
theorem dL_law_474 : decode cL_law 474 = .ok (.iadd, 1) := by decide +kernel
theorem dL_law_475 : decode cL_law 475 = .ok (.iaload, 1) := by decide +kernel
theorem dL_law_476 : decode cL_law 476 = .ok (.invokevirtual 72, 3) := by decide +kernel
theorem dL_law_479 : decode cL_law 479 = .ok (.aload_n 2, 1) := by decide +kernel
theorem dL_law_480 : decode cL_law 480 = .ok (.aload_n 0, 1) := by decide +kernel
theorem dL_law_481 : decode cL_law 481 = .ok (.iload_n 3, 1) := by decide +kernel
theorem dL_law_482 : decode cL_law 482 = .ok (.iconst 1, 1) := by decide +kernel
theorem dL_law_483 : decode cL_law 483 = .ok (.iadd, 1) := by decide +kernel
theorem dL_law_484 : decode cL_law 484 = .ok (.iaload, 1) := by decide +kernel
theorem dL_law_485 : decode cL_law 485 = .ok (.invokevirtual 75, 3) := by decide +kernel
theorem dL_law_488 : decode cL_law 488 = .ok (.if_icmp .eq 5, 3) := by decide +kernel
theorem dL_law_491 : decode cL_law 491 = .ok (.iconst 0, 1) := by decide +kernel
theorem dL_law_492 : decode cL_law 492 = .ok (.ireturn, 1) := by decide +kernel
theorem dL_law_493 : decode cL_law 493 = .ok (.iinc 3 3, 3) := by decide +kernel
theorem dL_law_496 : decode cL_law 496 = .ok (.goto (-478), 3) := by decide +kernel
theorem dL_law_499 : decode cL_law 499 = .ok (.iconst 1, 1) := by decide +kernel
theorem dL_law_500 : decode cL_law 500 = .ok (.ireturn, 1) := by decide +kernel
end
section
set_option maxRecDepth 100000
/-! ===== rows of this claim, A: numbers as Nat (nI, lN), arrays as functions, the two classes' worlds, contracts ===== -/
abbrev vwCl : List vw_C := [(RX0, TX0, 7), (RX1, TX1, 5)]
abbrev rmm (f L : Nat) : Room := { frames := f, cells := 0, slots := 0, locals := L }
def oI (b : Option Nat) : Int32 := match b with
  | none => -1
  | some i => nI i
/-- the first k places hold s, the others F -/
def ov (k : Nat) (s : Nat → Nat) (F : Nat → Int32) : Nat → Int32 := fun j => if j < k then nI (s j) else F j
theorem ov_lt {k i : Nat} {s : Nat → Nat} {F : Nat → Int32} (h : i < k) : ov k s F i = nI (s i) := if_pos h
theorem ov_0 {s : Nat → Nat} {F : Nat → Int32} : ov 0 s F = F := by
  funext j
  simp [ov]
theorem ov_upd {k i x : Nat} {s : Nat → Nat} {F : Nat → Int32} (h : i < k) : upd (ov k s F) i (nI x) = ov k (va_up s i x) F := by
  funext j
  by_cases hj : j = i
  · subst hj
    simp [upd, ov, va_up, h]
  · simp [upd, ov, va_up, hj]
theorem ov_ext {i x : Nat} {s : Nat → Nat} {F : Nat → Int32} : upd (ov i s F) i (nI x) = ov (i + 1) (va_up s i x) F := by
  funext j
  by_cases hj : j = i
  · subst hj
    simp [upd, ov, va_up]
  · have h2 : (j < i + 1) ↔ (j < i) := by omega
    simp [upd, ov, va_up, hj, h2]
theorem ov_step {i : Nat} {s : Nat → Nat} {F : Nat → Int32} : upd (ov i s F) i (nI (s i)) = ov (i + 1) s F := by
  rw [ov_ext]
  congr 1
  funext j
  by_cases hj : j = i
  · subst hj
    simp [va_up]
  · simp [va_up, hj]
theorem ov_congr {k : Nat} {s s' : Nat → Nat} {F : Nat → Int32} (h : ∀ j, j < k → s j = s' j) : ov k s F = ov k s' F := by
  funext j
  by_cases hj : j < k
  · simp [ov, hj, h j hj]
  · simp [ov, hj]
theorem nv_upd {i x : Nat} {v : Nat → Nat} : upd (fun j => nI (v j)) i (nI x) = fun j => nI (va_up v i x j) := by
  funext j
  by_cases hj : j = i
  · subst hj
    simp [upd, va_up]
  · simp [upd, va_up, hj]
theorem nar_b : ∀ a, a < 128 → vp_nar .byte (nI a) = nI a := by decide +kernel
theorem i2b_n : ∀ a, a < 128 → (nI a).toInt8.toInt32 = nI a := by decide +kernel
/-- an int as a place below n -/
def ix (n : Nat) (a : Int32) : Option Nat := if 0 ≤ a.toInt ∧ a.toInt < (n : Int) then some a.toInt.toNat else none
theorem ix_some {n : Nat} {a : Int32} {i : Nat} (hn : n < 2 ^ 31) (h : ix n a = some i) : i < n ∧ a = nI i := by
  unfold ix at h
  split at h
  · rename_i q
    have e := Option.some.inj h
    have hi : i < n := by omega
    refine ⟨hi, Int32.toInt_inj.mp ?_⟩
    rw [nI_toInt (by omega)]
    omega
  · cases h
theorem ix_none {n : Nat} {a : Int32} (hn : n < 2 ^ 31) (h : ix n a = none) : a < 0 ∨ nI n ≤ a := by
  unfold ix at h
  split at h
  · cases h
  · rename_i q
    rw [Int32.lt_iff_toInt_lt, Int32.le_iff_toInt_le, nI_toInt hn, Int32.toInt_zero]
    omega
theorem ix_nI {n i : Nat} (hn : n < 2 ^ 31) (h : i < n) : ix n (nI i) = some i := by
  unfold ix
  rw [nI_toInt (by omega), if_pos (by omega)]
  rfl
/-- what a test of a place answers: 1 where there is none -/
def bz (b : Option Nat) : Int32 := match b with
  | none => nI 1
  | some _ => nI 0
def bI (b : Bool) : Int32 := if b then nI 1 else nI 0
theorem bI_nar (b : Bool) : narrow .boolean (.int (bI b)) = .int (bI b) := by cases b <;> rfl
theorem bz_nar (b : Option Nat) : narrow .boolean (.int (bz b)) = .int (bz b) := by
  cases b with
  | none => rfl
  | some j => exact (rfl : narrow .boolean (.int 0) = .int 0)
section NR
variable {p : Program} {l : Launch} {e : Env} {R : Room} {s : State} {m : MethodId} {args : Array Value} {below : List Frame} {meth : Method} {c : Code} {H : Heap} {locs : List Loc} {cells slots : Nat} {Q : State → Prop}
variable {cc : ByteArray} {pc : Nat} {ls : Array Slot} {rest : List Value} {a b : Nat}
/-- the top, by another name for the same value -/
theorem n_toe {x y : Int32} (q : x = y) (k : W p l e R s m args below meth c H locs cells slots Q (F0 m pc ls (.int y :: rest))) : W p l e R s m args below meth c H locs cells slots Q (F0 m pc ls (.int x :: rest)) := by
  rw [q]
  exact k
theorem n_iadd (hx : p.tables.exec = Jvm.exec) (hb : c.code = cc) (hdg : decode cc pc = .ok (.iadd, 1)) (k : W p l e R s m args below meth c H locs cells slots Q (F0 m (pc + 1) ls (.int (nI (a + b)) :: rest))) : W p l e R s m args below meth c H locs cells slots Q (F0 m pc ls (.int (nI b) :: .int (nI a) :: rest)) :=
  lv_iadd hx hb hdg (by rw [nI_add]; exact k)
theorem n_imul (hx : p.tables.exec = Jvm.exec) (hb : c.code = cc) (hdg : decode cc pc = .ok (.imul, 1)) (k : W p l e R s m args below meth c H locs cells slots Q (F0 m (pc + 1) ls (.int (nI (a * b)) :: rest))) : W p l e R s m args below meth c H locs cells slots Q (F0 m pc ls (.int (nI b) :: .int (nI a) :: rest)) :=
  lv_imul hx hb hdg (by rw [pk_mul]; exact k)
theorem n_isub (hx : p.tables.exec = Jvm.exec) (hb : c.code = cc) (hdg : decode cc pc = .ok (.isub, 1)) (hab : b ≤ a) (k : W p l e R s m args below meth c H locs cells slots Q (F0 m (pc + 1) ls (.int (nI (a - b)) :: rest))) : W p l e R s m args below meth c H locs cells slots Q (F0 m pc ls (.int (nI b) :: .int (nI a) :: rest)) :=
  lv_isub hx hb hdg (by rw [pk_sub hab]; exact k)
theorem n_idiv (hx : p.tables.exec = Jvm.exec) (hb : c.code = cc) (hdg : decode cc pc = .ok (.idiv, 1)) (ha : a < 2 ^ 31) (h0 : 0 < b) (hb2 : b < 2 ^ 31) (k : W p l e R s m args below meth c H locs cells slots Q (F0 m (pc + 1) ls (.int (nI (a / b)) :: rest))) : W p l e R s m args below meth c H locs cells slots Q (F0 m pc ls (.int (nI b) :: .int (nI a) :: rest)) :=
  lv_idiv hx hb hdg (nI_ne0 h0 hb2) (by rw [pk_div ha h0 hb2]; exact k)
theorem n_irem (hx : p.tables.exec = Jvm.exec) (hb : c.code = cc) (hdg : decode cc pc = .ok (.irem, 1)) (ha : a < 2 ^ 31) (h0 : 0 < b) (hb2 : b < 2 ^ 31) (k : W p l e R s m args below meth c H locs cells slots Q (F0 m (pc + 1) ls (.int (nI (a % b)) :: rest))) : W p l e R s m args below meth c H locs cells slots Q (F0 m pc ls (.int (nI b) :: .int (nI a) :: rest)) :=
  lv_irem hx hb hdg (nI_ne0 h0 hb2) (by rw [pk_rem ha h0 hb2]; exact k)
theorem n_i2l (hx : p.tables.exec = Jvm.exec) (hb : c.code = cc) (hdg : decode cc pc = .ok (.i2l, 1)) (ha : a < 2 ^ 31) (k : W p l e R s m args below meth c H locs cells slots Q (F0 m (pc + 1) ls (.long (lN a) :: rest))) : W p l e R s m args below meth c H locs cells slots Q (F0 m pc ls (.int (nI a) :: rest)) :=
  lv_i2l hx hb hdg (nI_l ha) k
theorem n_lmul (hx : p.tables.exec = Jvm.exec) (hb : c.code = cc) (hdg : decode cc pc = .ok (.lmul, 1)) (k : W p l e R s m args below meth c H locs cells slots Q (F0 m (pc + 1) ls (.long (lN (a * b)) :: rest))) : W p l e R s m args below meth c H locs cells slots Q (F0 m pc ls (.long (lN b) :: .long (lN a) :: rest)) :=
  lv_lmul hx hb hdg (by rw [lN_mul]; exact k)
theorem n_ladd (hx : p.tables.exec = Jvm.exec) (hb : c.code = cc) (hdg : decode cc pc = .ok (.ladd, 1)) (k : W p l e R s m args below meth c H locs cells slots Q (F0 m (pc + 1) ls (.long (lN (a + b)) :: rest))) : W p l e R s m args below meth c H locs cells slots Q (F0 m pc ls (.long (lN b) :: .long (lN a) :: rest)) :=
  lv_ladd hx hb hdg (by rw [lN_add]; exact k)
theorem n_icmp_eq (hx : p.tables.exec = Jvm.exec) (hb : c.code = cc) {off : Int} {tgt : Nat} (hdg : decode cc pc = .ok (.if_icmp .eq off, 3)) (ht : (pc : Int) + off = (tgt : Int)) (ha : a < 2 ^ 31) (hb2 : b < 2 ^ 31) (kt : a = b → W p l e R s m args below meth c H locs cells slots Q (F0 m tgt ls rest)) (kf : a ≠ b → W p l e R s m args below meth c H locs cells slots Q (F0 m (pc + 3) ls rest)) : W p l e R s m args below meth c H locs cells slots Q (F0 m pc ls (.int (nI b) :: .int (nI a) :: rest)) :=
  lv_icmp_eq hx hb hdg ht (fun h => kt ((nI_eq ha hb2).mp h)) (fun h => kf (fun q => h (by rw [q])))
theorem n_icmp_ne (hx : p.tables.exec = Jvm.exec) (hb : c.code = cc) {off : Int} {tgt : Nat} (hdg : decode cc pc = .ok (.if_icmp .ne off, 3)) (ht : (pc : Int) + off = (tgt : Int)) (ha : a < 2 ^ 31) (hb2 : b < 2 ^ 31) (kt : a ≠ b → W p l e R s m args below meth c H locs cells slots Q (F0 m tgt ls rest)) (kf : a = b → W p l e R s m args below meth c H locs cells slots Q (F0 m (pc + 3) ls rest)) : W p l e R s m args below meth c H locs cells slots Q (F0 m pc ls (.int (nI b) :: .int (nI a) :: rest)) :=
  lv_icmp_ne hx hb hdg ht (fun h => kt (fun q => h (by rw [q]))) (fun h => kf ((nI_eq ha hb2).mp h))
theorem n_icmp_lt (hx : p.tables.exec = Jvm.exec) (hb : c.code = cc) {off : Int} {tgt : Nat} (hdg : decode cc pc = .ok (.if_icmp .lt off, 3)) (ht : (pc : Int) + off = (tgt : Int)) (ha : a < 2 ^ 31) (hb2 : b < 2 ^ 31) (kt : a < b → W p l e R s m args below meth c H locs cells slots Q (F0 m tgt ls rest)) (kf : b ≤ a → W p l e R s m args below meth c H locs cells slots Q (F0 m (pc + 3) ls rest)) : W p l e R s m args below meth c H locs cells slots Q (F0 m pc ls (.int (nI b) :: .int (nI a) :: rest)) :=
  lv_icmp_lt hx hb hdg ht (fun h => kt ((nI_ltI ha hb2).mp h)) (fun h => kf (Nat.not_lt.mp (fun q => h ((nI_ltI ha hb2).mpr q))))
theorem n_icmp_ge (hx : p.tables.exec = Jvm.exec) (hb : c.code = cc) {off : Int} {tgt : Nat} (hdg : decode cc pc = .ok (.if_icmp .ge off, 3)) (ht : (pc : Int) + off = (tgt : Int)) (ha : a < 2 ^ 31) (hb2 : b < 2 ^ 31) (kt : b ≤ a → W p l e R s m args below meth c H locs cells slots Q (F0 m tgt ls rest)) (kf : a < b → W p l e R s m args below meth c H locs cells slots Q (F0 m (pc + 3) ls rest)) : W p l e R s m args below meth c H locs cells slots Q (F0 m pc ls (.int (nI b) :: .int (nI a) :: rest)) :=
  lv_icmp_ge hx hb hdg ht (fun h => kt ((nI_leI hb2 ha).mp h)) (fun h => kf (Nat.not_le.mp (fun q => h ((nI_leI hb2 ha).mpr q))))
theorem n_icmp_gt (hx : p.tables.exec = Jvm.exec) (hb : c.code = cc) {off : Int} {tgt : Nat} (hdg : decode cc pc = .ok (.if_icmp .gt off, 3)) (ht : (pc : Int) + off = (tgt : Int)) (ha : a < 2 ^ 31) (hb2 : b < 2 ^ 31) (kt : b < a → W p l e R s m args below meth c H locs cells slots Q (F0 m tgt ls rest)) (kf : a ≤ b → W p l e R s m args below meth c H locs cells slots Q (F0 m (pc + 3) ls rest)) : W p l e R s m args below meth c H locs cells slots Q (F0 m pc ls (.int (nI b) :: .int (nI a) :: rest)) :=
  lv_icmp_gt hx hb hdg ht (fun h => kt ((nI_ltI hb2 ha).mp h)) (fun h => kf (Nat.not_lt.mp (fun q => h ((nI_ltI hb2 ha).mpr q))))
theorem n_icmp_le (hx : p.tables.exec = Jvm.exec) (hb : c.code = cc) {off : Int} {tgt : Nat} (hdg : decode cc pc = .ok (.if_icmp .le off, 3)) (ht : (pc : Int) + off = (tgt : Int)) (ha : a < 2 ^ 31) (hb2 : b < 2 ^ 31) (kt : a ≤ b → W p l e R s m args below meth c H locs cells slots Q (F0 m tgt ls rest)) (kf : b < a → W p l e R s m args below meth c H locs cells slots Q (F0 m (pc + 3) ls rest)) : W p l e R s m args below meth c H locs cells slots Q (F0 m pc ls (.int (nI b) :: .int (nI a) :: rest)) :=
  lv_icmp_le hx hb hdg ht (fun h => kt ((nI_leI ha hb2).mp h)) (fun h => kf (Nat.not_le.mp (fun q => h ((nI_leI ha hb2).mpr q))))
theorem n_if_eq (hx : p.tables.exec = Jvm.exec) (hb : c.code = cc) {off : Int} {tgt : Nat} (hdg : decode cc pc = .ok (.ifCond .eq off, 3)) (ht : (pc : Int) + off = (tgt : Int)) (ha : a < 2 ^ 31) (kt : a = 0 → W p l e R s m args below meth c H locs cells slots Q (F0 m tgt ls rest)) (kf : 0 < a → W p l e R s m args below meth c H locs cells slots Q (F0 m (pc + 3) ls rest)) : W p l e R s m args below meth c H locs cells slots Q (F0 m pc ls (.int (nI a) :: rest)) :=
  lv_if_eq hx hb hdg ht (fun h => kt (Nat.eq_zero_of_not_pos (fun q => nI_ne0 q ha h))) (fun h => kf (Nat.pos_of_ne_zero (fun q => h (by rw [q]; rfl))))
theorem n_if_ne (hx : p.tables.exec = Jvm.exec) (hb : c.code = cc) {off : Int} {tgt : Nat} (hdg : decode cc pc = .ok (.ifCond .ne off, 3)) (ht : (pc : Int) + off = (tgt : Int)) (ha : a < 2 ^ 31) (kt : 0 < a → W p l e R s m args below meth c H locs cells slots Q (F0 m tgt ls rest)) (kf : a = 0 → W p l e R s m args below meth c H locs cells slots Q (F0 m (pc + 3) ls rest)) : W p l e R s m args below meth c H locs cells slots Q (F0 m pc ls (.int (nI a) :: rest)) :=
  lv_if_ne hx hb hdg ht (fun h => kt (Nat.pos_of_ne_zero (fun q => h (by rw [q]; rfl)))) (fun h => kf (Nat.eq_zero_of_not_pos (fun q => nI_ne0 q ha h)))
theorem n_if_le (hx : p.tables.exec = Jvm.exec) (hb : c.code = cc) {off : Int} {tgt : Nat} (hdg : decode cc pc = .ok (.ifCond .le off, 3)) (ht : (pc : Int) + off = (tgt : Int)) (ha : a < 2 ^ 31) (kt : a = 0 → W p l e R s m args below meth c H locs cells slots Q (F0 m tgt ls rest)) (kf : 0 < a → W p l e R s m args below meth c H locs cells slots Q (F0 m (pc + 3) ls rest)) : W p l e R s m args below meth c H locs cells slots Q (F0 m pc ls (.int (nI a) :: rest)) :=
  lv_if_le hx hb hdg ht (fun h => kt (Nat.eq_zero_of_not_pos (fun q => nI_nle q ha h))) (fun h => kf (Nat.pos_of_ne_zero (fun q => h (by rw [q]; decide))))
/-- a place or none: is it none -/
theorem o_if_lt (hx : p.tables.exec = Jvm.exec) (hb : c.code = cc) {off : Int} {tgt : Nat} {o : Option Nat} (hdg : decode cc pc = .ok (.ifCond .lt off, 3)) (ht : (pc : Int) + off = (tgt : Int)) (ho : ∀ j, o = some j → j < 2 ^ 31) (kt : o = none → W p l e R s m args below meth c H locs cells slots Q (F0 m tgt ls rest)) (kf : ∀ j, o = some j → W p l e R s m args below meth c H locs cells slots Q (F0 m (pc + 3) ls rest)) : W p l e R s m args below meth c H locs cells slots Q (F0 m pc ls (.int (oI o) :: rest)) := by
  cases o with
  | none => exact lv_if_lt hx hb hdg ht (fun _ => kt rfl) (fun h => absurd (by decide) h)
  | some j => exact lv_if_lt hx hb hdg ht (fun h => absurd h (nI_pos (ho j rfl))) (fun _ => kf j rfl)
theorem o_if_ge (hx : p.tables.exec = Jvm.exec) (hb : c.code = cc) {off : Int} {tgt : Nat} {o : Option Nat} (hdg : decode cc pc = .ok (.ifCond .ge off, 3)) (ht : (pc : Int) + off = (tgt : Int)) (ho : ∀ j, o = some j → j < 2 ^ 31) (kt : ∀ j, o = some j → W p l e R s m args below meth c H locs cells slots Q (F0 m tgt ls rest)) (kf : o = none → W p l e R s m args below meth c H locs cells slots Q (F0 m (pc + 3) ls rest)) : W p l e R s m args below meth c H locs cells slots Q (F0 m pc ls (.int (oI o) :: rest)) := by
  cases o with
  | none => exact lv_if_ge hx hb hdg ht (fun h => absurd h (by decide)) (fun _ => kf rfl)
  | some j => exact lv_if_ge hx hb hdg ht (fun _ => kt j rfl) (fun h => absurd (nI_pos' (ho j rfl)) h)
theorem b_if_eq (hx : p.tables.exec = Jvm.exec) (hb : c.code = cc) {off : Int} {tgt : Nat} {o : Bool} (hdg : decode cc pc = .ok (.ifCond .eq off, 3)) (ht : (pc : Int) + off = (tgt : Int)) (kt : o = false → W p l e R s m args below meth c H locs cells slots Q (F0 m tgt ls rest)) (kf : o = true → W p l e R s m args below meth c H locs cells slots Q (F0 m (pc + 3) ls rest)) : W p l e R s m args below meth c H locs cells slots Q (F0 m pc ls (.int (bI o) :: rest)) := by
  cases o with
  | false => exact lv_if_eq hx hb hdg ht (fun _ => kt rfl) (fun h => absurd (by decide) h)
  | true => exact lv_if_eq hx hb hdg ht (fun h => absurd h (by decide)) (fun _ => kf rfl)
theorem b_if_ne (hx : p.tables.exec = Jvm.exec) (hb : c.code = cc) {off : Int} {tgt : Nat} {o : Bool} (hdg : decode cc pc = .ok (.ifCond .ne off, 3)) (ht : (pc : Int) + off = (tgt : Int)) (kt : o = true → W p l e R s m args below meth c H locs cells slots Q (F0 m tgt ls rest)) (kf : o = false → W p l e R s m args below meth c H locs cells slots Q (F0 m (pc + 3) ls rest)) : W p l e R s m args below meth c H locs cells slots Q (F0 m pc ls (.int (bI o) :: rest)) := by
  cases o with
  | false => exact lv_if_ne hx hb hdg ht (fun h => absurd (by decide) h) (fun _ => kf rfl)
  | true => exact lv_if_ne hx hb hdg ht (fun _ => kt rfl) (fun h => absurd h (by decide))
/-- bz: the test of a place -/
theorem z_if_eq (hx : p.tables.exec = Jvm.exec) (hb : c.code = cc) {off : Int} {tgt : Nat} {o : Option Nat} (hdg : decode cc pc = .ok (.ifCond .eq off, 3)) (ht : (pc : Int) + off = (tgt : Int)) (kt : ∀ j, o = some j → W p l e R s m args below meth c H locs cells slots Q (F0 m tgt ls rest)) (kf : o = none → W p l e R s m args below meth c H locs cells slots Q (F0 m (pc + 3) ls rest)) : W p l e R s m args below meth c H locs cells slots Q (F0 m pc ls (.int (bz o) :: rest)) := by
  cases o with
  | none => exact lv_if_eq hx hb hdg ht (fun h => absurd h (by decide)) (fun _ => kf rfl)
  | some j => exact lv_if_eq hx hb hdg ht (fun _ => kt j rfl) (fun h => absurd rfl h)
theorem z_if_ne (hx : p.tables.exec = Jvm.exec) (hb : c.code = cc) {off : Int} {tgt : Nat} {o : Option Nat} (hdg : decode cc pc = .ok (.ifCond .ne off, 3)) (ht : (pc : Int) + off = (tgt : Int)) (kt : o = none → W p l e R s m args below meth c H locs cells slots Q (F0 m tgt ls rest)) (kf : ∀ j, o = some j → W p l e R s m args below meth c H locs cells slots Q (F0 m (pc + 3) ls rest)) : W p l e R s m args below meth c H locs cells slots Q (F0 m pc ls (.int (bz o) :: rest)) := by
  cases o with
  | none => exact lv_if_ne hx hb hdg ht (fun _ => kt rfl) (fun h => absurd h (by decide))
  | some j => exact lv_if_ne hx hb hdg ht (fun h => absurd rfl h) (fun _ => kf j rfl)
theorem lg_cmp_n {a b : Nat} (ha : a < 2 ^ 63) (hb : b < 2 ^ 63) : lg_cmp (lN a) (lN b) = if b < a then 1 else if a = b then 0 else -1 := by
  unfold lg_cmp
  have h1 : (lN a > lN b) ↔ b < a := pk_lLT hb ha
  have h2 : (lN a = lN b) ↔ a = b := pk_lEQ ha hb
  simp only [h1, h2]
theorem n_lc_eq (hx : p.tables.exec = Jvm.exec) (hb : c.code = cc) {off : Int} {tgt : Nat} (hd0 : decode cc pc = .ok (.lcmp, 1)) (hdg : decode cc (pc + 1) = .ok (.ifCond .eq off, 3)) (ht : ((pc + 1 : Nat) : Int) + off = (tgt : Int)) (ha : a < 2 ^ 63) (hb2 : b < 2 ^ 63) (kt : a = b → W p l e R s m args below meth c H locs cells slots Q (F0 m tgt ls rest)) (kf : a ≠ b → W p l e R s m args below meth c H locs cells slots Q (F0 m (pc + 4) ls rest)) : W p l e R s m args below meth c H locs cells slots Q (F0 m pc ls (.long (lN b) :: .long (lN a) :: rest)) := by
  refine W.lcmp hx hb hd0 ?_
  rw [lg_cmp_n ha hb2]
  refine lv_if_eq hx hb hdg ht (fun h => kt ?_) (fun h => kf (fun q => h ?_))
  · split at h
    · exact absurd h (by decide)
    · split at h
      · assumption
      · exact absurd h (by decide)
  · subst q
    simp
theorem n_lc_ne (hx : p.tables.exec = Jvm.exec) (hb : c.code = cc) {off : Int} {tgt : Nat} (hd0 : decode cc pc = .ok (.lcmp, 1)) (hdg : decode cc (pc + 1) = .ok (.ifCond .ne off, 3)) (ht : ((pc + 1 : Nat) : Int) + off = (tgt : Int)) (ha : a < 2 ^ 63) (hb2 : b < 2 ^ 63) (kt : a ≠ b → W p l e R s m args below meth c H locs cells slots Q (F0 m tgt ls rest)) (kf : a = b → W p l e R s m args below meth c H locs cells slots Q (F0 m (pc + 4) ls rest)) : W p l e R s m args below meth c H locs cells slots Q (F0 m pc ls (.long (lN b) :: .long (lN a) :: rest)) := by
  refine W.lcmp hx hb hd0 ?_
  rw [lg_cmp_n ha hb2]
  refine lv_if_ne hx hb hdg ht (fun h => kt (fun q => h ?_)) (fun h => kf ?_)
  · subst q
    simp
  · split at h
    · exact absurd h (by decide)
    · split at h
      · assumption
      · exact absurd h (by decide)
theorem n_lc_le (hx : p.tables.exec = Jvm.exec) (hb : c.code = cc) {off : Int} {tgt : Nat} (hd0 : decode cc pc = .ok (.lcmp, 1)) (hdg : decode cc (pc + 1) = .ok (.ifCond .le off, 3)) (ht : ((pc + 1 : Nat) : Int) + off = (tgt : Int)) (ha : a < 2 ^ 63) (hb2 : b < 2 ^ 63) (kt : a ≤ b → W p l e R s m args below meth c H locs cells slots Q (F0 m tgt ls rest)) (kf : b < a → W p l e R s m args below meth c H locs cells slots Q (F0 m (pc + 4) ls rest)) : W p l e R s m args below meth c H locs cells slots Q (F0 m pc ls (.long (lN b) :: .long (lN a) :: rest)) := by
  refine W.lcmp hx hb hd0 ?_
  rw [lg_cmp_n ha hb2]
  refine lv_if_le hx hb hdg ht (fun h => kt ?_) (fun h => kf ?_)
  · split at h
    · exact absurd h (by decide)
    · omega
  · split at h
    · assumption
    · split at h
      · exact absurd (by decide) h
      · exact absurd (by decide) h
theorem n_lc_lt (hx : p.tables.exec = Jvm.exec) (hb : c.code = cc) {off : Int} {tgt : Nat} (hd0 : decode cc pc = .ok (.lcmp, 1)) (hdg : decode cc (pc + 1) = .ok (.ifCond .lt off, 3)) (ht : ((pc + 1 : Nat) : Int) + off = (tgt : Int)) (ha : a < 2 ^ 63) (hb2 : b < 2 ^ 63) (kt : a < b → W p l e R s m args below meth c H locs cells slots Q (F0 m tgt ls rest)) (kf : b ≤ a → W p l e R s m args below meth c H locs cells slots Q (F0 m (pc + 4) ls rest)) : W p l e R s m args below meth c H locs cells slots Q (F0 m pc ls (.long (lN b) :: .long (lN a) :: rest)) := by
  refine W.lcmp hx hb hd0 ?_
  rw [lg_cmp_n ha hb2]
  refine lv_if_lt hx hb hdg ht (fun h => kt ?_) (fun h => kf ?_)
  · split at h
    · exact absurd h (by decide)
    · split at h
      · exact absurd h (by decide)
      · omega
  · split at h
    · omega
    · split at h
      · omega
      · exact absurd (by decide) h
end NR
end
section
set_option maxRecDepth 100000
/-! ===== rows of this claim, B: contracts over a world, entry, return, call: the callee has the caller's whole world ===== -/
def HW (D : va_G) (A : Nat → Prop) (H0 : Heap) (ws : va_W) (H : Heap) (locs : List Loc) : Prop := va_P D vwCl ws H ∧ va_D A ws ∧ va_S A H0 H locs
def GG (D : va_G) (A : Nat → Prop) (tys : List (ClassId × FieldType)) (own : String) (p : Program) (s : State) (m : MethodId) (args : Array Value) (cd : Code) (cc : ByteArray) (nL : Nat) : Prop := CallFix p m cd cc nL s args lw_all own ∧ va_K D vwCl tys s ∧ ∀ q : Nat, s.heap.size ≤ q → A q
abbrev BW {σ : Type} (D : va_G) (tys : List (ClassId × FieldType)) (w : σ → va_W) (A : Nat → Prop) (u : σ) (t : State) : Prop := va_P D vwCl (w u) t.heap ∧ va_K D vwCl tys t ∧ va_D A (w u)
abbrev PW (D : va_G) (tys : List (ClassId × FieldType)) (ws : va_W) (sz : Nat) : State → Prop := fun U => U.heap.size = sz ∧ va_P D vwCl ws U.heap ∧ va_K D vwCl tys U ∧ va_D (fun _ => True) ws
/-- the contract of a method that answers an int (a boolean), a long, nothing -/
def Mi {σ : Type} (l : Launch) (D : va_G) (tys : List (ClassId × FieldType)) (w : σ → va_W) (y : MethodName) (cc : ByteArray) (maxL : Nat) (ret : Option FieldType) (f L : Nat) (a0 : Nat) (As : List Value) (u0 : σ) (post : Int32 → σ → Prop) : Prop :=
  ∀ sz : Nat, Met l y (ws_ y cc maxL ret) (rmm f L) (va_Pc (.ref a0 :: As) (PW D tys (w u0) sz)) (va_Qi post (BW D tys w (va_A (w u0) sz)) (va_A (w u0) sz)) 0 0 (va_A (w u0) sz)
def Ml {σ : Type} (l : Launch) (D : va_G) (tys : List (ClassId × FieldType)) (w : σ → va_W) (y : MethodName) (cc : ByteArray) (maxL : Nat) (ret : Option FieldType) (f L : Nat) (a0 : Nat) (As : List Value) (u0 : σ) (post : Int64 → σ → Prop) : Prop :=
  ∀ sz : Nat, Met l y (ws_ y cc maxL ret) (rmm f L) (va_Pc (.ref a0 :: As) (PW D tys (w u0) sz)) (va_Ql post (BW D tys w (va_A (w u0) sz)) (va_A (w u0) sz)) 0 0 (va_A (w u0) sz)
def Mv {σ : Type} (l : Launch) (D : va_G) (tys : List (ClassId × FieldType)) (w : σ → va_W) (y : MethodName) (cc : ByteArray) (maxL : Nat) (ret : Option FieldType) (f L : Nat) (a0 : Nat) (As : List Value) (u0 : σ) (post : σ → Prop) : Prop :=
  ∀ sz : Nat, Met l y (ws_ y cc maxL ret) (rmm f L) (va_Pc (.ref a0 :: As) (PW D tys (w u0) sz)) (va_Qv post (BW D tys w (va_A (w u0) sz)) (va_A (w u0) sz)) 0 0 (va_A (w u0) sz)
section MO
variable {σ : Type} {l : Launch} {D : va_G} {tys : List (ClassId × FieldType)} {w : σ → va_W} {y : MethodName} {cc : ByteArray} {maxL : Nat} {ret : Option FieldType} {f L a0 : Nat} {As : List Value} {u0 : σ}
theorem Mi.of {post : Int32 → σ → Prop} (hy : plainName y.cls = true) (hn : (lg_sl (.ref a0 :: As)).length ≤ maxL)
    (body : ∀ (p : Program) (e : Env) (s : State) (m : MethodId) (args : Array Value) (below : List Frame) (meth : Method) (cd : Code) (A : Nat → Prop) (ls : Array Slot) (Q : State → Prop), GG D A tys y.cls p s m args cd cc maxL → meth.sig.returnType = ret → HW D A s.heap (w u0) s.heap [] → lv_has ls maxL (lv_args 0 (.ref a0 :: As)) →
      (∀ (pc : Nat) (H : Heap) (locs : List Loc) (ls : Array Slot) (r : Int32) (u : σ) (ty : FieldType), HW D A s.heap (w u) H locs → post r u → meth.sig.returnType = some ty → narrow ty (.int r) = .int r → decode cc pc = .ok (.ireturn, 1) → W p l e (rmm f L) s m args below meth cd H locs 0 0 Q (F0 m pc ls [.int r])) →
      W p l e (rmm f L) s m args below meth cd s.heap [] 0 0 Q (F0 m 0 ls [])) : Mi l D tys w y cc maxL ret f L a0 As u0 post := by
  intro sz
  refine Met.ofW (cc := cc) (maxL := maxL) hy rfl ?_
  intro p e s m args below meth cd s₁ B hml hv
  obtain ⟨rfl, hsz, hP, hK, hD0⟩ := hv
  have hts := atoms_spec (ws := ws_ y cc maxL _) B.pre
  have hts : ∀ w ∈ lw_all, w.before _ s = true := fun w h => hts w (List.mem_cons_of_mem _ h)
  have hown : s.vm.findClass y.cls = some m.cls := findClass_of_methodNamed B.named
  have hx := B.exec
  have hb := B.bytes
  have hr := B.returns
  have hlocks := B.notSynchronized
  subst hsz
  have hD := hD0.self (sz := s.heap.size)
  have hl := lv_entry (.ref a0 :: As) (n := maxL) hn
  rw [lg_entry_eq]
  refine body p e s m _ below meth cd _ _ _ ⟨⟨hx, hb, hml, hown, hts⟩, hK, fun q h => Or.inr h⟩ hr ⟨hP, hD, va_S.rf⟩ hl ?_
  intro pc H locs ls r u ty h hp hr2 hnr hd
  exact W.zret hx hb hr2 hnr (fun t ht hW => ⟨⟨r, u, rfl, hp, by rw [ht]; exact h.1, va_K.moved hW.alike hK, h.2.1⟩, h.2.2.F ht⟩) h.2.2.2.2 hd
theorem Ml.of {post : Int64 → σ → Prop} (hy : plainName y.cls = true) (hn : (lg_sl (.ref a0 :: As)).length ≤ maxL) (hret : ret = some .long)
    (body : ∀ (p : Program) (e : Env) (s : State) (m : MethodId) (args : Array Value) (below : List Frame) (meth : Method) (cd : Code) (A : Nat → Prop) (ls : Array Slot) (Q : State → Prop), GG D A tys y.cls p s m args cd cc maxL → HW D A s.heap (w u0) s.heap [] → lv_has ls maxL (lv_args 0 (.ref a0 :: As)) →
      (∀ (pc : Nat) (H : Heap) (locs : List Loc) (ls : Array Slot) (r : Int64) (u : σ), HW D A s.heap (w u) H locs → post r u → decode cc pc = .ok (.lreturn, 1) → W p l e (rmm f L) s m args below meth cd H locs 0 0 Q (F0 m pc ls [.long r])) →
      W p l e (rmm f L) s m args below meth cd s.heap [] 0 0 Q (F0 m 0 ls [])) : Ml l D tys w y cc maxL ret f L a0 As u0 post := by
  intro sz
  subst hret
  refine Met.ofW (cc := cc) (maxL := maxL) hy rfl ?_
  intro p e s m args below meth cd s₁ B hml hv
  obtain ⟨rfl, hsz, hP, hK, hD0⟩ := hv
  have hts := atoms_spec (ws := ws_ y cc maxL _) B.pre
  have hts : ∀ w ∈ lw_all, w.before _ s = true := fun w h => hts w (List.mem_cons_of_mem _ h)
  have hown : s.vm.findClass y.cls = some m.cls := findClass_of_methodNamed B.named
  have hx := B.exec
  have hb := B.bytes
  have hr := B.returns
  have hlocks := B.notSynchronized
  subst hsz
  have hD := hD0.self (sz := s.heap.size)
  have hl := lv_entry (.ref a0 :: As) (n := maxL) hn
  rw [lg_entry_eq]
  refine body p e s m _ below meth cd _ _ _ ⟨⟨hx, hb, hml, hown, hts⟩, hK, fun q h => Or.inr h⟩ ⟨hP, hD, va_S.rf⟩ hl ?_
  intro pc H locs ls r u h hp hd
  exact W.lret hx hb hr (fun t ht hW => ⟨⟨r, u, rfl, hp, by rw [ht]; exact h.1, va_K.moved hW.alike hK, h.2.1⟩, h.2.2.F ht⟩) h.2.2.2.2 hd
theorem Mv.of {post : σ → Prop} (hy : plainName y.cls = true) (hn : (lg_sl (.ref a0 :: As)).length ≤ maxL) (hret : ret = none)
    (body : ∀ (p : Program) (e : Env) (s : State) (m : MethodId) (args : Array Value) (below : List Frame) (meth : Method) (cd : Code) (A : Nat → Prop) (ls : Array Slot) (Q : State → Prop), GG D A tys y.cls p s m args cd cc maxL → HW D A s.heap (w u0) s.heap [] → lv_has ls maxL (lv_args 0 (.ref a0 :: As)) →
      (∀ (pc : Nat) (H : Heap) (locs : List Loc) (ls : Array Slot) (u : σ), HW D A s.heap (w u) H locs → post u → decode cc pc = .ok (.return_, 1) → W p l e (rmm f L) s m args below meth cd H locs 0 0 Q (F0 m pc ls [])) →
      W p l e (rmm f L) s m args below meth cd s.heap [] 0 0 Q (F0 m 0 ls [])) : Mv l D tys w y cc maxL ret f L a0 As u0 post := by
  intro sz
  subst hret
  refine Met.ofW (cc := cc) (maxL := maxL) hy rfl ?_
  intro p e s m args below meth cd s₁ B hml hv
  obtain ⟨rfl, hsz, hP, hK, hD0⟩ := hv
  have hts := atoms_spec (ws := ws_ y cc maxL _) B.pre
  have hts : ∀ w ∈ lw_all, w.before _ s = true := fun w h => hts w (List.mem_cons_of_mem _ h)
  have hown : s.vm.findClass y.cls = some m.cls := findClass_of_methodNamed B.named
  have hx := B.exec
  have hb := B.bytes
  have hr := B.returns
  have hlocks := B.notSynchronized
  subst hsz
  have hD := hD0.self (sz := s.heap.size)
  have hl := lv_entry (.ref a0 :: As) (n := maxL) hn
  rw [lg_entry_eq]
  refine body p e s m _ below meth cd _ _ _ ⟨⟨hx, hb, hml, hown, hts⟩, hK, fun q h => Or.inr h⟩ ⟨hP, hD, va_S.rf⟩ hl ?_
  intro pc H locs ls u h hp hd
  exact W.vret hx hb hr (fun t ht hW => ⟨⟨u, rfl, hp, by rw [ht]; exact h.1, va_K.moved hW.alike hK, h.2.1⟩, h.2.2.F ht⟩) h.2.2.2.2 hd
end MO
/-- what a call of y asks of the tables -/
abbrev Cal (own C : String) (y : MethodName) (bytes : ByteArray) (maxL : Nat) (ret : Option FieldType) (index n : Nat) : Prop :=
  GoodIn lw_all (wsV own index C y (ws_ y bytes maxL ret)) ∧ (y.cls = C ∧ y.cls ≠ "java/lang/invoke/MethodHandle" ∧ y.cls ≠ "java/lang/invoke/VarHandle" ∧ (parseMethodDescriptor y.desc).map (fun d => d.parameters.length) = some n)
section MC
variable {p : Program} {l : Launch} {e : Env} {Rm : Room} {s : State} {m : MethodId} {args : Array Value} {below : List Frame} {meth : Method} {cd : Code} {H : Heap} {locs : List Loc} {cells slots : Nat} {Q : State → Prop}
variable {cc bytes : ByteArray} {pc nL maxL index n f L a0 : Nat} {ls : Array Slot} {rest st As : List Value} {D : va_G} {A : Nat → Prop} {tys : List (ClassId × FieldType)} {own C : String} {y : MethodName} {ret : Option FieldType} {σ : Type} {w : σ → va_W} {u0 : σ}
theorem HW.free {ws : va_W} (G : GG D A tys own p s m args cd cc nL) (h : HW D A s.heap ws H locs) : ∀ q, va_A ws H.size q → A q := by
  intro q hq
  rcases hq with ⟨k, x, hk⟩ | hq
  · exact h.2.1.2 k (q, x) hk
  · exact G.2.2 q (Nat.le_trans h.2.2.1 hq)
theorem HW.pre {ws : va_W} (G : GG D A tys own p s m args cd cc nL) (h : HW D A s.heap ws H locs) (hrc : ∃ cellB : Cell, H[a0]? = some cellB ∧ cellB.vm.isStatics = false ∧ s.vm.findClass C = some cellB.cls) : PreV s H C a0 (va_Pc (.ref a0 :: As) (PW D tys ws H.size)) As :=
  ⟨fun a U g mk q => by obtain ⟨q0, q1, qP, qK, qD⟩ := q; exact ⟨q0, q1, qP, va_K.moved (u := U) (U := U.calling g mk a) (Vm.Alike.refl U.vm) qK, qD⟩, hrc, fun U hU hW => ⟨rfl, by rw [hU], by rw [hU]; exact h.1, va_K.moved hW.alike G.2.1, h.2.1.weaken (fun _ _ _ _ => trivial)⟩⟩
theorem W_calli {post : Int32 → σ → Prop} (G : GG D A tys own p s m args cd cc nL) (h : HW D A s.heap (w u0) H locs) (hM : Mi l D tys w y bytes maxL ret f L a0 As u0 post) (K : Cal own C y bytes maxL ret index n) (hrc : ∃ cellB : Cell, H[a0]? = some cellB ∧ cellB.vm.isStatics = false ∧ s.vm.findClass C = some cellB.cls) (hn : As.length = n) (hR : f + 1 ≤ Rm.frames ∧ 8 + (maxL + 11) + L ≤ Rm.locals ∧ cells ≤ Rm.cells ∧ slots ≤ Rm.slots) (hsz : ls.size = nL) (hst : st = As.reverse ++ .ref a0 :: rest) (hrs : (rest.map fun v => v.category).sum ≤ 8) (hdg : decode cc pc = .ok (.invokevirtual index, 3))
    (k : ∀ (r : Int32) (u : σ) (H1 : Heap) (locs1 : List Loc), post r u → HW D A s.heap (w u) H1 locs1 → W p l e Rm s m args below meth cd H1 locs1 cells slots Q (F0 m (pc + 3) ls (.int r :: rest))) : W p l e Rm s m args below meth cd H locs cells slots Q (F0 m pc ls st) := by
  have hFc := h.free G
  refine va_calli (va_runV (As := As) (rest := rest) G.1 (hM H.size) (cwV n G.1.2.2.2.2 K.1 rfl rfl rfl K.2 ⟨hR.1, hR.2.1⟩) (h.pre G hrc) rfl hn hsz hst (lv_room hrs) hdg ⟨hR.2.2.1, hR.2.2.2⟩) h.2.2 (fun q _ h => hFc q h) hFc (fun r u t H1 locs1 ht hvm hp hB hz1 hk1 hS => ?_)
  obtain ⟨hP1, hK1, hD1⟩ := hB
  rw [ht] at hP1
  exact k r u H1 locs1 hp ⟨hP1, hD1.weaken (fun _ q _ hq => hFc q.1 hq), hS⟩
theorem W_calll {post : Int64 → σ → Prop} (G : GG D A tys own p s m args cd cc nL) (h : HW D A s.heap (w u0) H locs) (hM : Ml l D tys w y bytes maxL ret f L a0 As u0 post) (K : Cal own C y bytes maxL ret index n) (hrc : ∃ cellB : Cell, H[a0]? = some cellB ∧ cellB.vm.isStatics = false ∧ s.vm.findClass C = some cellB.cls) (hn : As.length = n) (hR : f + 1 ≤ Rm.frames ∧ 8 + (maxL + 11) + L ≤ Rm.locals ∧ cells ≤ Rm.cells ∧ slots ≤ Rm.slots) (hsz : ls.size = nL) (hst : st = As.reverse ++ .ref a0 :: rest) (hrs : (rest.map fun v => v.category).sum ≤ 8) (hdg : decode cc pc = .ok (.invokevirtual index, 3))
    (k : ∀ (r : Int64) (u : σ) (H1 : Heap) (locs1 : List Loc), post r u → HW D A s.heap (w u) H1 locs1 → W p l e Rm s m args below meth cd H1 locs1 cells slots Q (F0 m (pc + 3) ls (.long r :: rest))) : W p l e Rm s m args below meth cd H locs cells slots Q (F0 m pc ls st) := by
  have hFc := h.free G
  refine va_calll (va_runV (As := As) (rest := rest) G.1 (hM H.size) (cwV n G.1.2.2.2.2 K.1 rfl rfl rfl K.2 ⟨hR.1, hR.2.1⟩) (h.pre G hrc) rfl hn hsz hst (lv_room hrs) hdg ⟨hR.2.2.1, hR.2.2.2⟩) h.2.2 (fun q _ h => hFc q h) hFc (fun r u t H1 locs1 ht hvm hp hB hz1 hk1 hS => ?_)
  obtain ⟨hP1, hK1, hD1⟩ := hB
  rw [ht] at hP1
  exact k r u H1 locs1 hp ⟨hP1, hD1.weaken (fun _ q _ hq => hFc q.1 hq), hS⟩
theorem W_callv {post : σ → Prop} (G : GG D A tys own p s m args cd cc nL) (h : HW D A s.heap (w u0) H locs) (hM : Mv l D tys w y bytes maxL ret f L a0 As u0 post) (K : Cal own C y bytes maxL ret index n) (hrc : ∃ cellB : Cell, H[a0]? = some cellB ∧ cellB.vm.isStatics = false ∧ s.vm.findClass C = some cellB.cls) (hn : As.length = n) (hR : f + 1 ≤ Rm.frames ∧ 8 + (maxL + 11) + L ≤ Rm.locals ∧ cells ≤ Rm.cells ∧ slots ≤ Rm.slots) (hsz : ls.size = nL) (hst : st = As.reverse ++ .ref a0 :: rest) (hrs : (rest.map fun v => v.category).sum ≤ 8) (hdg : decode cc pc = .ok (.invokevirtual index, 3))
    (k : ∀ (u : σ) (H1 : Heap) (locs1 : List Loc), post u → HW D A s.heap (w u) H1 locs1 → W p l e Rm s m args below meth cd H1 locs1 cells slots Q (F0 m (pc + 3) ls rest)) : W p l e Rm s m args below meth cd H locs cells slots Q (F0 m pc ls st) := by
  have hFc := h.free G
  refine va_callv (va_runV (As := As) (rest := rest) G.1 (hM H.size) (cwV n G.1.2.2.2.2 K.1 rfl rfl rfl K.2 ⟨hR.1, hR.2.1⟩) (h.pre G hrc) rfl hn hsz hst (lv_room hrs) hdg ⟨hR.2.2.1, hR.2.2.2⟩) h.2.2 (fun q _ h => hFc q h) hFc (fun u t H1 locs1 ht hvm hp hB hz1 hk1 hS => ?_)
  obtain ⟨hP1, hK1, hD1⟩ := hB
  rw [ht] at hP1
  exact k u H1 locs1 hp ⟨hP1, hD1.weaken (fun _ q _ hq => hFc q.1 hq), hS⟩
end MC
end
section
set_option maxRecDepth 100000
abbrev XS : Type := Nat × Nat × (Nat → Nat) × (Nat → Int32) × (Nat → Int32) × (Nat → Int32) × (Nat → Int32)
abbrev wX (ad : Nat → Nat) (cI cB : ClassId) (c t : Nat) (v : Nat → Nat) (S K R O : Nat → Int32) : va_W := [(ad 0, .inr (0, [.int (nI c), .int (nI t), .ref (ad 1), .ref (ad 2), .ref (ad 3), .ref (ad 4), .ref (ad 5)])), (ad 1, .inl (cI, 6, .inl (fun j => nI (v j)))), (ad 2, .inl (cI, 6, .inl S)), (ad 3, .inl (cI, 6, .inl K)), (ad 4, .inl (cI, 6, .inl R)), (ad 5, .inl (cB, 6, .inl O))]
abbrev WX (ad : Nat → Nat) (cI cB : ClassId) : XS → va_W := fun u => wX ad cI cB u.1 u.2.1 u.2.2.1 u.2.2.2.1 u.2.2.2.2.1 u.2.2.2.2.2.1 u.2.2.2.2.2.2
abbrev tyX (cI cB : ClassId) : List (ClassId × FieldType) := [(cI, .int), (cB, .byte)]
abbrev HX (D : va_G) (A : Nat → Prop) (ad : Nat → Nat) (cI cB : ClassId) (H0 : Heap) (c t : Nat) (v : Nat → Nat) (S K R O : Nat → Int32) (H : Heap) (locs : List Loc) : Prop := HW D A H0 (wX ad cI cB c t v S K R O) H locs
abbrev GX (D : va_G) (A : Nat → Prop) (cI cB : ClassId) (p : Program) (s : State) (m : MethodId) (args : Array Value) (cd : Code) (cc : ByteArray) (nL : Nat) : Prop := GG D A (tyX cI cB) RX0 p s m args cd cc nL
section XR
variable {p : Program} {l : Launch} {e : Env} {Rm : Room} {s : State} {m : MethodId} {args : Array Value} {below : List Frame} {meth : Method} {cd : Code} {H : Heap} {locs : List Loc} {cells slots : Nat} {Q : State → Prop}
variable {cc bytes : ByteArray} {pc nL maxL index n f L : Nat} {ls : Array Slot} {rest st As : List Value} {y : MethodName} {ret : Option FieldType}
variable {D : va_G} {A : Nat → Prop} {ad : Nat → Nat} {cI cB : ClassId} {c t : Nat} {v : Nat → Nat} {S K R O : Nat → Int32}
theorem x_getC (G : GX D A cI cB p s m args cd cc nL) (h : HX D A ad cI cB s.heap c t v S K R O H locs) (hdg : decode cc pc = .ok (.getfield 26, 3)) (kk : W p l e Rm s m args below meth cd H locs cells slots Q (F0 m (pc + 3) ls (.int (nI c) :: rest))) : W p l e Rm s m args below meth cd H locs cells slots Q (F0 m pc ls (.ref (ad 0) :: rest)) :=
  va_get (D := D) (ci := 0) (v := .int (nI c)) (C := RX0) (T := TX0) (N := 7) G.1.1 G.1.2.1 G.1.2.2.2.2 in_X0 G.1.2.2.2.1 G.2.1 h.1 0 rfl rfl 0 (by decide) (G.1.2.2.2.2 _ q38) (fun _ h9 => h9) rfl hdg kk
theorem x_getT (G : GX D A cI cB p s m args cd cc nL) (h : HX D A ad cI cB s.heap c t v S K R O H locs) (hdg : decode cc pc = .ok (.getfield 37, 3)) (kk : W p l e Rm s m args below meth cd H locs cells slots Q (F0 m (pc + 3) ls (.int (nI t) :: rest))) : W p l e Rm s m args below meth cd H locs cells slots Q (F0 m pc ls (.ref (ad 0) :: rest)) :=
  va_get (D := D) (ci := 0) (v := .int (nI t)) (C := RX0) (T := TX0) (N := 7) G.1.1 G.1.2.1 G.1.2.2.2.2 in_X0 G.1.2.2.2.1 G.2.1 h.1 0 rfl rfl 1 (by decide) (G.1.2.2.2.2 _ q39) (fun _ h9 => h9) rfl hdg kk
theorem x_getV (G : GX D A cI cB p s m args cd cc nL) (h : HX D A ad cI cB s.heap c t v S K R O H locs) (hdg : decode cc pc = .ok (.getfield 7, 3)) (kk : W p l e Rm s m args below meth cd H locs cells slots Q (F0 m (pc + 3) ls (.ref (ad 1) :: rest))) : W p l e Rm s m args below meth cd H locs cells slots Q (F0 m pc ls (.ref (ad 0) :: rest)) :=
  va_get (D := D) (ci := 0) (v := .ref (ad 1)) (C := RX0) (T := TX0) (N := 7) G.1.1 G.1.2.1 G.1.2.2.2.2 in_X0 G.1.2.2.2.1 G.2.1 h.1 0 rfl rfl 2 (by decide) (G.1.2.2.2.2 _ q40) (fun _ h9 => h9) rfl hdg kk
theorem x_getS (G : GX D A cI cB p s m args cd cc nL) (h : HX D A ad cI cB s.heap c t v S K R O H locs) (hdg : decode cc pc = .ok (.getfield 13, 3)) (kk : W p l e Rm s m args below meth cd H locs cells slots Q (F0 m (pc + 3) ls (.ref (ad 2) :: rest))) : W p l e Rm s m args below meth cd H locs cells slots Q (F0 m pc ls (.ref (ad 0) :: rest)) :=
  va_get (D := D) (ci := 0) (v := .ref (ad 2)) (C := RX0) (T := TX0) (N := 7) G.1.1 G.1.2.1 G.1.2.2.2.2 in_X0 G.1.2.2.2.1 G.2.1 h.1 0 rfl rfl 3 (by decide) (G.1.2.2.2.2 _ q41) (fun _ h9 => h9) rfl hdg kk
theorem x_getK (G : GX D A cI cB p s m args cd cc nL) (h : HX D A ad cI cB s.heap c t v S K R O H locs) (hdg : decode cc pc = .ok (.getfield 16, 3)) (kk : W p l e Rm s m args below meth cd H locs cells slots Q (F0 m (pc + 3) ls (.ref (ad 3) :: rest))) : W p l e Rm s m args below meth cd H locs cells slots Q (F0 m pc ls (.ref (ad 0) :: rest)) :=
  va_get (D := D) (ci := 0) (v := .ref (ad 3)) (C := RX0) (T := TX0) (N := 7) G.1.1 G.1.2.1 G.1.2.2.2.2 in_X0 G.1.2.2.2.1 G.2.1 h.1 0 rfl rfl 4 (by decide) (G.1.2.2.2.2 _ q42) (fun _ h9 => h9) rfl hdg kk
theorem x_getR (G : GX D A cI cB p s m args cd cc nL) (h : HX D A ad cI cB s.heap c t v S K R O H locs) (hdg : decode cc pc = .ok (.getfield 19, 3)) (kk : W p l e Rm s m args below meth cd H locs cells slots Q (F0 m (pc + 3) ls (.ref (ad 4) :: rest))) : W p l e Rm s m args below meth cd H locs cells slots Q (F0 m pc ls (.ref (ad 0) :: rest)) :=
  va_get (D := D) (ci := 0) (v := .ref (ad 4)) (C := RX0) (T := TX0) (N := 7) G.1.1 G.1.2.1 G.1.2.2.2.2 in_X0 G.1.2.2.2.1 G.2.1 h.1 0 rfl rfl 5 (by decide) (G.1.2.2.2.2 _ q43) (fun _ h9 => h9) rfl hdg kk
theorem x_getO (G : GX D A cI cB p s m args cd cc nL) (h : HX D A ad cI cB s.heap c t v S K R O H locs) (hdg : decode cc pc = .ok (.getfield 22, 3)) (kk : W p l e Rm s m args below meth cd H locs cells slots Q (F0 m (pc + 3) ls (.ref (ad 5) :: rest))) : W p l e Rm s m args below meth cd H locs cells slots Q (F0 m pc ls (.ref (ad 0) :: rest)) :=
  va_get (D := D) (ci := 0) (v := .ref (ad 5)) (C := RX0) (T := TX0) (N := 7) G.1.1 G.1.2.1 G.1.2.2.2.2 in_X0 G.1.2.2.2.1 G.2.1 h.1 0 rfl rfl 6 (by decide) (G.1.2.2.2.2 _ q44) (fun _ h9 => h9) rfl hdg kk
theorem x_putC (G : GX D A cI cB p s m args cd cc nL) (h : HX D A ad cI cB s.heap c t v S K R O H locs) {x : Nat} (hdg : decode cc pc = .ok (.putfield 26, 3)) (kk : ∀ (H1 : Heap) (locs1 : List Loc), HX D A ad cI cB s.heap x t v S K R O H1 locs1 → W p l e Rm s m args below meth cd H1 locs1 cells slots Q (F0 m (pc + 3) ls (rest))) : W p l e Rm s m args below meth cd H locs cells slots Q (F0 m pc ls (.int (nI x) :: .ref (ad 0) :: rest)) :=
  va_put (D := D) (ci := 0) (v := .int (nI x)) (ty := .int) (C := RX0) (T := TX0) (N := 7) G.1.1 G.1.2.1 G.1.2.2.2.2 in_X0 tyX0 tyX0_ok nmX0 G.1.2.2.2.1 G.2.1 h.1 h.2.1 h.2.2 0 rfl rfl 0 (by decide) (G.1.2.2.2.2 _ q38) (fun _ h9 => h9) rfl (by decide +kernel) rfl rfl (Nat.le_of_ble_eq_true rfl) hdg (fun H1 locs1 hP hD hS => kk H1 locs1 ⟨hP, hD, hS⟩)
theorem x_putT (G : GX D A cI cB p s m args cd cc nL) (h : HX D A ad cI cB s.heap c t v S K R O H locs) {x : Nat} (hdg : decode cc pc = .ok (.putfield 37, 3)) (kk : ∀ (H1 : Heap) (locs1 : List Loc), HX D A ad cI cB s.heap c x v S K R O H1 locs1 → W p l e Rm s m args below meth cd H1 locs1 cells slots Q (F0 m (pc + 3) ls (rest))) : W p l e Rm s m args below meth cd H locs cells slots Q (F0 m pc ls (.int (nI x) :: .ref (ad 0) :: rest)) :=
  va_put (D := D) (ci := 0) (v := .int (nI x)) (ty := .int) (C := RX0) (T := TX0) (N := 7) G.1.1 G.1.2.1 G.1.2.2.2.2 in_X0 tyX0 tyX0_ok nmX0 G.1.2.2.2.1 G.2.1 h.1 h.2.1 h.2.2 0 rfl rfl 1 (by decide) (G.1.2.2.2.2 _ q39) (fun _ h9 => h9) rfl (by decide +kernel) rfl rfl (Nat.le_of_ble_eq_true rfl) hdg (fun H1 locs1 hP hD hS => kk H1 locs1 ⟨hP, hD, hS⟩)
theorem x_ldV (G : GX D A cI cB p s m args cd cc nL) (h : HX D A ad cI cB s.heap c t v S K R O H locs) {i : Nat} (hi : i < 6) (hdg : decode cc pc = .ok (.iaload, 1)) (kk : W p l e Rm s m args below meth cd H locs cells slots Q (F0 m (pc + 1) ls (.int (nI (v i)) :: rest))) : W p l e Rm s m args below meth cd H locs cells slots Q (F0 m pc ls (.int (nI i) :: .ref (ad 1) :: rest)) := by
  refine va_iald G.1.1 G.1.2.1 G.2.1 h.1 1 0 rfl rfl (vp_in_nI hi (by decide)) hdg ?_
  rw [nI_clamp (by omega)]
  exact kk
theorem x_stV (G : GX D A cI cB p s m args cd cc nL) (h : HX D A ad cI cB s.heap c t v S K R O H locs) {i x : Nat} (hi : i < 6) (hdg : decode cc pc = .ok (.iastore, 1)) (kk : ∀ (H1 : Heap) (locs1 : List Loc), HX D A ad cI cB s.heap c t (va_up v i x) S K R O H1 locs1 → W p l e Rm s m args below meth cd H1 locs1 cells slots Q (F0 m (pc + 1) ls (rest))) : W p l e Rm s m args below meth cd H locs cells slots Q (F0 m pc ls (.int (nI x) :: .int (nI i) :: .ref (ad 1) :: rest)) := by
  refine va_iast G.1.1 G.1.2.1 G.2.1 h.1 h.2.1 h.2.2 1 0 rfl rfl (vp_in_nI hi (by decide)) hdg (fun H1 locs1 hP hD hS => ?_)
  rw [nI_clamp (by omega), nv_upd] at hP hD
  exact kk H1 locs1 ⟨hP, hD, hS⟩
theorem x_ldS (G : GX D A cI cB p s m args cd cc nL) (h : HX D A ad cI cB s.heap c t v S K R O H locs) {i : Nat} {x : Int32} (hi : i < 6) (q : S i = x) (hdg : decode cc pc = .ok (.iaload, 1)) (kk : W p l e Rm s m args below meth cd H locs cells slots Q (F0 m (pc + 1) ls (.int x :: rest))) : W p l e Rm s m args below meth cd H locs cells slots Q (F0 m pc ls (.int (nI i) :: .ref (ad 2) :: rest)) := by
  refine va_iald G.1.1 G.1.2.1 G.2.1 h.1 2 0 rfl rfl (vp_in_nI hi (by decide)) hdg ?_
  rw [nI_clamp (by omega), q]
  exact kk
theorem x_stS (G : GX D A cI cB p s m args cd cc nL) (h : HX D A ad cI cB s.heap c t v S K R O H locs) {i : Nat} {x : Int32} {S' : Nat → Int32} (hi : i < 6) (q : upd S i x = S') (hdg : decode cc pc = .ok (.iastore, 1)) (kk : ∀ (H1 : Heap) (locs1 : List Loc), HX D A ad cI cB s.heap c t v S' K R O H1 locs1 → W p l e Rm s m args below meth cd H1 locs1 cells slots Q (F0 m (pc + 1) ls (rest))) : W p l e Rm s m args below meth cd H locs cells slots Q (F0 m pc ls (.int x :: .int (nI i) :: .ref (ad 2) :: rest)) := by
  refine va_iast G.1.1 G.1.2.1 G.2.1 h.1 h.2.1 h.2.2 2 0 rfl rfl (vp_in_nI hi (by decide)) hdg (fun H1 locs1 hP hD hS => ?_)
  rw [nI_clamp (by omega), q] at hP hD
  exact kk H1 locs1 ⟨hP, hD, hS⟩
theorem x_ldK (G : GX D A cI cB p s m args cd cc nL) (h : HX D A ad cI cB s.heap c t v S K R O H locs) {i : Nat} {x : Int32} (hi : i < 6) (q : K i = x) (hdg : decode cc pc = .ok (.iaload, 1)) (kk : W p l e Rm s m args below meth cd H locs cells slots Q (F0 m (pc + 1) ls (.int x :: rest))) : W p l e Rm s m args below meth cd H locs cells slots Q (F0 m pc ls (.int (nI i) :: .ref (ad 3) :: rest)) := by
  refine va_iald G.1.1 G.1.2.1 G.2.1 h.1 3 0 rfl rfl (vp_in_nI hi (by decide)) hdg ?_
  rw [nI_clamp (by omega), q]
  exact kk
theorem x_stK (G : GX D A cI cB p s m args cd cc nL) (h : HX D A ad cI cB s.heap c t v S K R O H locs) {i : Nat} {x : Int32} {K' : Nat → Int32} (hi : i < 6) (q : upd K i x = K') (hdg : decode cc pc = .ok (.iastore, 1)) (kk : ∀ (H1 : Heap) (locs1 : List Loc), HX D A ad cI cB s.heap c t v S K' R O H1 locs1 → W p l e Rm s m args below meth cd H1 locs1 cells slots Q (F0 m (pc + 1) ls (rest))) : W p l e Rm s m args below meth cd H locs cells slots Q (F0 m pc ls (.int x :: .int (nI i) :: .ref (ad 3) :: rest)) := by
  refine va_iast G.1.1 G.1.2.1 G.2.1 h.1 h.2.1 h.2.2 3 0 rfl rfl (vp_in_nI hi (by decide)) hdg (fun H1 locs1 hP hD hS => ?_)
  rw [nI_clamp (by omega), q] at hP hD
  exact kk H1 locs1 ⟨hP, hD, hS⟩
theorem x_ldR (G : GX D A cI cB p s m args cd cc nL) (h : HX D A ad cI cB s.heap c t v S K R O H locs) {i : Nat} {x : Int32} (hi : i < 6) (q : R i = x) (hdg : decode cc pc = .ok (.iaload, 1)) (kk : W p l e Rm s m args below meth cd H locs cells slots Q (F0 m (pc + 1) ls (.int x :: rest))) : W p l e Rm s m args below meth cd H locs cells slots Q (F0 m pc ls (.int (nI i) :: .ref (ad 4) :: rest)) := by
  refine va_iald G.1.1 G.1.2.1 G.2.1 h.1 4 0 rfl rfl (vp_in_nI hi (by decide)) hdg ?_
  rw [nI_clamp (by omega), q]
  exact kk
theorem x_stR (G : GX D A cI cB p s m args cd cc nL) (h : HX D A ad cI cB s.heap c t v S K R O H locs) {i : Nat} {x : Int32} {R' : Nat → Int32} (hi : i < 6) (q : upd R i x = R') (hdg : decode cc pc = .ok (.iastore, 1)) (kk : ∀ (H1 : Heap) (locs1 : List Loc), HX D A ad cI cB s.heap c t v S K R' O H1 locs1 → W p l e Rm s m args below meth cd H1 locs1 cells slots Q (F0 m (pc + 1) ls (rest))) : W p l e Rm s m args below meth cd H locs cells slots Q (F0 m pc ls (.int x :: .int (nI i) :: .ref (ad 4) :: rest)) := by
  refine va_iast G.1.1 G.1.2.1 G.2.1 h.1 h.2.1 h.2.2 4 0 rfl rfl (vp_in_nI hi (by decide)) hdg (fun H1 locs1 hP hD hS => ?_)
  rw [nI_clamp (by omega), q] at hP hD
  exact kk H1 locs1 ⟨hP, hD, hS⟩
theorem x_ldO (G : GX D A cI cB p s m args cd cc nL) (h : HX D A ad cI cB s.heap c t v S K R O H locs) {i : Nat} {x : Int32} (hi : i < 6) (q : O i = x) (hdg : decode cc pc = .ok (.baload, 1)) (kk : W p l e Rm s m args below meth cd H locs cells slots Q (F0 m (pc + 1) ls (.int x :: rest))) : W p l e Rm s m args below meth cd H locs cells slots Q (F0 m pc ls (.int (nI i) :: .ref (ad 5) :: rest)) := by
  refine va_bald G.1.1 G.1.2.1 G.2.1 h.1 5 1 rfl rfl (vp_in_nI hi (by decide)) hdg ?_
  rw [nI_clamp (by omega), q]
  exact kk
theorem x_stO (G : GX D A cI cB p s m args cd cc nL) (h : HX D A ad cI cB s.heap c t v S K R O H locs) {i x : Nat} {O' : Nat → Int32} (hi : i < 6) (hx6 : x < 128) (q : upd O i (nI x) = O') (hdg : decode cc pc = .ok (.bastore, 1)) (kk : ∀ (H1 : Heap) (locs1 : List Loc), HX D A ad cI cB s.heap c t v S K R O' H1 locs1 → W p l e Rm s m args below meth cd H1 locs1 cells slots Q (F0 m (pc + 1) ls (rest))) : W p l e Rm s m args below meth cd H locs cells slots Q (F0 m pc ls (.int (nI x) :: .int (nI i) :: .ref (ad 5) :: rest)) := by
  refine va_bast G.1.1 G.1.2.1 G.2.1 h.1 h.2.1 h.2.2 5 1 rfl rfl (vp_in_nI hi (by decide)) hdg (fun H1 locs1 hP hD hS => ?_)
  rw [nI_clamp (by omega), nar_b x hx6, q] at hP hD
  exact kk H1 locs1 ⟨hP, hD, hS⟩
theorem x_callr {x : Int32} (G : GX D A cI cB p s m args cd cc nL) (h : HX D A ad cI cB s.heap c t v S K R O H locs) (hM : Mi l D (tyX cI cB) (WX ad cI cB) y bytes maxL ret f L (ad 0) As (c, t, v, S, K, R, O) (fun r u => r = x ∧ u = (c, t, v, S, K, R, O))) (Kc : Cal RX0 RX0 y bytes maxL ret index n) (hn : As.length = n) (hR : f + 1 ≤ Rm.frames ∧ 8 + (maxL + 11) + L ≤ Rm.locals ∧ cells ≤ Rm.cells ∧ slots ≤ Rm.slots) (hsz : ls.size = nL) (hst : st = As.reverse ++ .ref (ad 0) :: rest) (hrs : (rest.map fun v => v.category).sum ≤ 8) (hdg : decode cc pc = .ok (.invokevirtual index, 3)) (kk : ∀ (H1 : Heap) (locs1 : List Loc), HX D A ad cI cB s.heap c t v S K R O H1 locs1 → W p l e Rm s m args below meth cd H1 locs1 cells slots Q (F0 m (pc + 3) ls (.int x :: rest))) : W p l e Rm s m args below meth cd H locs cells slots Q (F0 m pc ls st) :=
  W_calli (w := WX ad cI cB) (u0 := (c, t, v, S, K, R, O)) G h hM Kc (va_recv G.2.1 h.1 (ci := 0) (q0 := 0) rfl rfl) hn hR hsz hst hrs hdg (fun r u H1 locs1 hp h1 => by obtain ⟨rfl, rfl⟩ := hp; exact kk H1 locs1 h1)
theorem x_callrl {x : Int64} (G : GX D A cI cB p s m args cd cc nL) (h : HX D A ad cI cB s.heap c t v S K R O H locs) (hM : Ml l D (tyX cI cB) (WX ad cI cB) y bytes maxL ret f L (ad 0) As (c, t, v, S, K, R, O) (fun r u => r = x ∧ u = (c, t, v, S, K, R, O))) (Kc : Cal RX0 RX0 y bytes maxL ret index n) (hn : As.length = n) (hR : f + 1 ≤ Rm.frames ∧ 8 + (maxL + 11) + L ≤ Rm.locals ∧ cells ≤ Rm.cells ∧ slots ≤ Rm.slots) (hsz : ls.size = nL) (hst : st = As.reverse ++ .ref (ad 0) :: rest) (hrs : (rest.map fun v => v.category).sum ≤ 8) (hdg : decode cc pc = .ok (.invokevirtual index, 3)) (kk : ∀ (H1 : Heap) (locs1 : List Loc), HX D A ad cI cB s.heap c t v S K R O H1 locs1 → W p l e Rm s m args below meth cd H1 locs1 cells slots Q (F0 m (pc + 3) ls (.long x :: rest))) : W p l e Rm s m args below meth cd H locs cells slots Q (F0 m pc ls st) :=
  W_calll (w := WX ad cI cB) (u0 := (c, t, v, S, K, R, O)) G h hM Kc (va_recv G.2.1 h.1 (ci := 0) (q0 := 0) rfl rfl) hn hR hsz hst hrs hdg (fun r u H1 locs1 hp h1 => by obtain ⟨rfl, rfl⟩ := hp; exact kk H1 locs1 h1)
theorem x_calli {post : Int32 → XS → Prop} (G : GX D A cI cB p s m args cd cc nL) (h : HX D A ad cI cB s.heap c t v S K R O H locs) (hM : Mi l D (tyX cI cB) (WX ad cI cB) y bytes maxL ret f L (ad 0) As (c, t, v, S, K, R, O) post) (Kc : Cal RX0 RX0 y bytes maxL ret index n) (hn : As.length = n) (hR : f + 1 ≤ Rm.frames ∧ 8 + (maxL + 11) + L ≤ Rm.locals ∧ cells ≤ Rm.cells ∧ slots ≤ Rm.slots) (hsz : ls.size = nL) (hst : st = As.reverse ++ .ref (ad 0) :: rest) (hrs : (rest.map fun v => v.category).sum ≤ 8) (hdg : decode cc pc = .ok (.invokevirtual index, 3)) (kk : ∀ (r : Int32) (c' t' : Nat) (v' : Nat → Nat) (S' K' R' O' : Nat → Int32) (H1 : Heap) (locs1 : List Loc), post r (c', t', v', S', K', R', O') → HX D A ad cI cB s.heap c' t' v' S' K' R' O' H1 locs1 → W p l e Rm s m args below meth cd H1 locs1 cells slots Q (F0 m (pc + 3) ls (.int r :: rest))) : W p l e Rm s m args below meth cd H locs cells slots Q (F0 m pc ls st) :=
  W_calli (w := WX ad cI cB) (u0 := (c, t, v, S, K, R, O)) G h hM Kc (va_recv G.2.1 h.1 (ci := 0) (q0 := 0) rfl rfl) hn hR hsz hst hrs hdg (fun r u H1 locs1 hp h1 => by obtain ⟨c', t', v', S', K', R', O'⟩ := u; exact kk r _ _ _ _ _ _ _ H1 locs1 hp h1)
theorem x_callv {post : XS → Prop} (G : GX D A cI cB p s m args cd cc nL) (h : HX D A ad cI cB s.heap c t v S K R O H locs) (hM : Mv l D (tyX cI cB) (WX ad cI cB) y bytes maxL ret f L (ad 0) As (c, t, v, S, K, R, O) post) (Kc : Cal RX0 RX0 y bytes maxL ret index n) (hn : As.length = n) (hR : f + 1 ≤ Rm.frames ∧ 8 + (maxL + 11) + L ≤ Rm.locals ∧ cells ≤ Rm.cells ∧ slots ≤ Rm.slots) (hsz : ls.size = nL) (hst : st = As.reverse ++ .ref (ad 0) :: rest) (hrs : (rest.map fun v => v.category).sum ≤ 8) (hdg : decode cc pc = .ok (.invokevirtual index, 3)) (kk : ∀ (c' t' : Nat) (v' : Nat → Nat) (S' K' R' O' : Nat → Int32) (H1 : Heap) (locs1 : List Loc), post (c', t', v', S', K', R', O') → HX D A ad cI cB s.heap c' t' v' S' K' R' O' H1 locs1 → W p l e Rm s m args below meth cd H1 locs1 cells slots Q (F0 m (pc + 3) ls (rest))) : W p l e Rm s m args below meth cd H locs cells slots Q (F0 m pc ls st) :=
  W_callv (w := WX ad cI cB) (u0 := (c, t, v, S, K, R, O)) G h hM Kc (va_recv G.2.1 h.1 (ci := 0) (q0 := 0) rfl rfl) hn hR hsz hst hrs hdg (fun u H1 locs1 hp h1 => by obtain ⟨c', t', v', S', K', R', O'⟩ := u; exact kk _ _ _ _ _ _ _ H1 locs1 hp h1)
end XR
theorem kX_badVotes : Cal RX0 RX0 yX0_badVotes cX0_badVotes 2 (some .boolean) 30 1 := ⟨lw_V q66 q68 qs0 q28 q69, by decide +kernel⟩
theorem kX_missingList : Cal RX0 RX0 yX0_missingList cX0_missingList 2 (some .boolean) 34 1 := ⟨lw_V q74 q76 qs1 q28 q77, by decide +kernel⟩
theorem kX_allVotes : Cal RX0 RX0 yX0_allVotes cX0_allVotes 3 (some .int) 40 0 := ⟨lw_V q90 q92 qs2 q28 q93, by decide +kernel⟩
theorem kX_badRule : Cal RX0 RX0 yX0_badRule cX0_badRule 2 (some .boolean) 83 1 := ⟨lw_V q106 q108 qs3 q28 q109, by decide +kernel⟩
theorem kX_shareOut : Cal RX0 RX0 yX0_shareOut cX0_shareOut 5 none 86 2 := ⟨lw_V q110 q112 qs4 q28 q113, by decide +kernel⟩
theorem kX_shareByQuotients : Cal RX0 RX0 yX0_shareByQuotients cX0_shareByQuotients 6 none 76 3 := ⟨lw_V q114 q116 qs5 q28 q117, by decide +kernel⟩
theorem kX_startShare : Cal RX0 RX0 yX0_startShare cX0_startShare 10 (some .int) 62 4 := ⟨lw_V q118 q120 qs6 q28 q121, by decide +kernel⟩
theorem kX_worth : Cal RX0 RX0 yX0_worth cX0_worth 5 (some .long) 48 2 := ⟨lw_V q125 q127 qs7 q28 q128, by decide +kernel⟩
theorem kX_divisor : Cal RX0 RX0 yX0_divisor cX0_divisor 3 (some .int) 44 2 := ⟨lw_V q129 q131 qs8 q28 q132, by decide +kernel⟩
theorem kX_lastTaken : Cal RX0 RX0 yX0_lastTaken cX0_lastTaken 4 (some .int) 66 1 := ⟨lw_V q133 q135 qs9 q28 q136, by decide +kernel⟩
theorem kX_before : Cal RX0 RX0 yX0_before cX0_before 18 (some .boolean) 52 5 := ⟨lw_V q137 q139 qs10 q28 q140, by decide +kernel⟩
theorem kX_firstNext : Cal RX0 RX0 yX0_firstNext cX0_firstNext 4 (some .int) 70 1 := ⟨lw_V q141 q143 qs11 q28 q144, by decide +kernel⟩
theorem kX_shareByRests : Cal RX0 RX0 yX0_shareByRests cX0_shareByRests 10 none 80 3 := ⟨lw_V q145 q147 qs12 q28 q148, by decide +kernel⟩
theorem kX_putInOrder : Cal RX0 RX0 yX0_putInOrder cX0_putInOrder 4 (some .int) 73 2 := ⟨lw_V q149 q151 qs13 q28 q152, by decide +kernel⟩
theorem kX_shareWith : Cal RX0 RX0 yX0_shareWith cX0_shareWith 5 (some .int) 90 3 := ⟨lw_V q161 q163 qs14 q28 q164, by decide +kernel⟩
theorem kX_keepShares : Cal RX0 RX0 yX0_keepShares cX0_keepShares 2 none 94 0 := ⟨lw_V q173 q175 qs15 q28 q176, by decide +kernel⟩
end
section
set_option maxRecDepth 100000
abbrev YS : Type := Nat × Nat × (Nat → Nat) × (Nat → Int32) × (Nat → Int32)
abbrev wY (ad : Nat → Nat) (cI : ClassId) (c t : Nat) (v : Nat → Nat) (S K : Nat → Int32) : va_W := [(ad 0, .inr (1, [.int (nI c), .ref (ad 1), .int (nI t), .ref (ad 2), .ref (ad 3)])), (ad 1, .inl (cI, 6, .inl (fun j => nI (v j)))), (ad 2, .inl (cI, 6, .inl S)), (ad 3, .inl (cI, 6, .inl K))]
abbrev WY (ad : Nat → Nat) (cI : ClassId) : YS → va_W := fun u => wY ad cI u.1 u.2.1 u.2.2.1 u.2.2.2.1 u.2.2.2.2
abbrev tyY (cI : ClassId) : List (ClassId × FieldType) := [(cI, .int)]
abbrev HY (D : va_G) (A : Nat → Prop) (ad : Nat → Nat) (cI : ClassId) (H0 : Heap) (c t : Nat) (v : Nat → Nat) (S K : Nat → Int32) (H : Heap) (locs : List Loc) : Prop := HW D A H0 (wY ad cI c t v S K) H locs
abbrev GY (D : va_G) (A : Nat → Prop) (cI : ClassId) (p : Program) (s : State) (m : MethodId) (args : Array Value) (cd : Code) (cc : ByteArray) (nL : Nat) : Prop := GG D A (tyY cI) RX1 p s m args cd cc nL
section YR
variable {p : Program} {l : Launch} {e : Env} {Rm : Room} {s : State} {m : MethodId} {args : Array Value} {below : List Frame} {meth : Method} {cd : Code} {H : Heap} {locs : List Loc} {cells slots : Nat} {Q : State → Prop}
variable {cc bytes : ByteArray} {pc nL maxL index n f L : Nat} {ls : Array Slot} {rest st As : List Value} {y : MethodName} {ret : Option FieldType}
variable {D : va_G} {A : Nat → Prop} {ad : Nat → Nat} {cI : ClassId} {c t : Nat} {v : Nat → Nat} {S K : Nat → Int32}
theorem y_getC (G : GY D A cI p s m args cd cc nL) (h : HY D A ad cI s.heap c t v S K H locs) (hdg : decode cc pc = .ok (.getfield 19, 3)) (kk : W p l e Rm s m args below meth cd H locs cells slots Q (F0 m (pc + 3) ls (.int (nI c) :: rest))) : W p l e Rm s m args below meth cd H locs cells slots Q (F0 m pc ls (.ref (ad 0) :: rest)) :=
  va_get (D := D) (ci := 1) (v := .int (nI c)) (C := RX1) (T := TX1) (N := 5) G.1.1 G.1.2.1 G.1.2.2.2.2 in_X1 G.1.2.2.2.1 G.2.1 h.1 0 rfl rfl 0 (by decide) (G.1.2.2.2.2 _ q195) (fun _ h9 => h9) rfl hdg kk
theorem y_getT (G : GY D A cI p s m args cd cc nL) (h : HY D A ad cI s.heap c t v S K H locs) (hdg : decode cc pc = .ok (.getfield 30, 3)) (kk : W p l e Rm s m args below meth cd H locs cells slots Q (F0 m (pc + 3) ls (.int (nI t) :: rest))) : W p l e Rm s m args below meth cd H locs cells slots Q (F0 m pc ls (.ref (ad 0) :: rest)) :=
  va_get (D := D) (ci := 1) (v := .int (nI t)) (C := RX1) (T := TX1) (N := 5) G.1.1 G.1.2.1 G.1.2.2.2.2 in_X1 G.1.2.2.2.1 G.2.1 h.1 0 rfl rfl 2 (by decide) (G.1.2.2.2.2 _ q197) (fun _ h9 => h9) rfl hdg kk
theorem y_getV (G : GY D A cI p s m args cd cc nL) (h : HY D A ad cI s.heap c t v S K H locs) (hdg : decode cc pc = .ok (.getfield 7, 3)) (kk : W p l e Rm s m args below meth cd H locs cells slots Q (F0 m (pc + 3) ls (.ref (ad 1) :: rest))) : W p l e Rm s m args below meth cd H locs cells slots Q (F0 m pc ls (.ref (ad 0) :: rest)) :=
  va_get (D := D) (ci := 1) (v := .ref (ad 1)) (C := RX1) (T := TX1) (N := 5) G.1.1 G.1.2.1 G.1.2.2.2.2 in_X1 G.1.2.2.2.1 G.2.1 h.1 0 rfl rfl 1 (by decide) (G.1.2.2.2.2 _ q196) (fun _ h9 => h9) rfl hdg kk
theorem y_getS (G : GY D A cI p s m args cd cc nL) (h : HY D A ad cI s.heap c t v S K H locs) (hdg : decode cc pc = .ok (.getfield 13, 3)) (kk : W p l e Rm s m args below meth cd H locs cells slots Q (F0 m (pc + 3) ls (.ref (ad 2) :: rest))) : W p l e Rm s m args below meth cd H locs cells slots Q (F0 m pc ls (.ref (ad 0) :: rest)) :=
  va_get (D := D) (ci := 1) (v := .ref (ad 2)) (C := RX1) (T := TX1) (N := 5) G.1.1 G.1.2.1 G.1.2.2.2.2 in_X1 G.1.2.2.2.1 G.2.1 h.1 0 rfl rfl 3 (by decide) (G.1.2.2.2.2 _ q198) (fun _ h9 => h9) rfl hdg kk
theorem y_getK (G : GY D A cI p s m args cd cc nL) (h : HY D A ad cI s.heap c t v S K H locs) (hdg : decode cc pc = .ok (.getfield 16, 3)) (kk : W p l e Rm s m args below meth cd H locs cells slots Q (F0 m (pc + 3) ls (.ref (ad 3) :: rest))) : W p l e Rm s m args below meth cd H locs cells slots Q (F0 m pc ls (.ref (ad 0) :: rest)) :=
  va_get (D := D) (ci := 1) (v := .ref (ad 3)) (C := RX1) (T := TX1) (N := 5) G.1.1 G.1.2.1 G.1.2.2.2.2 in_X1 G.1.2.2.2.1 G.2.1 h.1 0 rfl rfl 4 (by decide) (G.1.2.2.2.2 _ q199) (fun _ h9 => h9) rfl hdg kk
theorem y_putC (G : GY D A cI p s m args cd cc nL) (h : HY D A ad cI s.heap c t v S K H locs) {x : Nat} (hdg : decode cc pc = .ok (.putfield 19, 3)) (kk : ∀ (H1 : Heap) (locs1 : List Loc), HY D A ad cI s.heap x t v S K H1 locs1 → W p l e Rm s m args below meth cd H1 locs1 cells slots Q (F0 m (pc + 3) ls (rest))) : W p l e Rm s m args below meth cd H locs cells slots Q (F0 m pc ls (.int (nI x) :: .ref (ad 0) :: rest)) :=
  va_put (D := D) (ci := 1) (v := .int (nI x)) (ty := .int) (C := RX1) (T := TX1) (N := 5) G.1.1 G.1.2.1 G.1.2.2.2.2 in_X1 tyX1 tyX1_ok nmX1 G.1.2.2.2.1 G.2.1 h.1 h.2.1 h.2.2 0 rfl rfl 0 (by decide) (G.1.2.2.2.2 _ q195) (fun _ h9 => h9) rfl (by decide +kernel) rfl rfl (Nat.le_of_ble_eq_true rfl) hdg (fun H1 locs1 hP hD hS => kk H1 locs1 ⟨hP, hD, hS⟩)
theorem y_putT (G : GY D A cI p s m args cd cc nL) (h : HY D A ad cI s.heap c t v S K H locs) {x : Nat} (hdg : decode cc pc = .ok (.putfield 30, 3)) (kk : ∀ (H1 : Heap) (locs1 : List Loc), HY D A ad cI s.heap c x v S K H1 locs1 → W p l e Rm s m args below meth cd H1 locs1 cells slots Q (F0 m (pc + 3) ls (rest))) : W p l e Rm s m args below meth cd H locs cells slots Q (F0 m pc ls (.int (nI x) :: .ref (ad 0) :: rest)) :=
  va_put (D := D) (ci := 1) (v := .int (nI x)) (ty := .int) (C := RX1) (T := TX1) (N := 5) G.1.1 G.1.2.1 G.1.2.2.2.2 in_X1 tyX1 tyX1_ok nmX1 G.1.2.2.2.1 G.2.1 h.1 h.2.1 h.2.2 0 rfl rfl 2 (by decide) (G.1.2.2.2.2 _ q197) (fun _ h9 => h9) rfl (by decide +kernel) rfl rfl (Nat.le_of_ble_eq_true rfl) hdg (fun H1 locs1 hP hD hS => kk H1 locs1 ⟨hP, hD, hS⟩)
theorem y_ldV (G : GY D A cI p s m args cd cc nL) (h : HY D A ad cI s.heap c t v S K H locs) {i : Nat} (hi : i < 6) (hdg : decode cc pc = .ok (.iaload, 1)) (kk : W p l e Rm s m args below meth cd H locs cells slots Q (F0 m (pc + 1) ls (.int (nI (v i)) :: rest))) : W p l e Rm s m args below meth cd H locs cells slots Q (F0 m pc ls (.int (nI i) :: .ref (ad 1) :: rest)) := by
  refine va_iald G.1.1 G.1.2.1 G.2.1 h.1 1 0 rfl rfl (vp_in_nI hi (by decide)) hdg ?_
  rw [nI_clamp (by omega)]
  exact kk
theorem y_stV (G : GY D A cI p s m args cd cc nL) (h : HY D A ad cI s.heap c t v S K H locs) {i x : Nat} (hi : i < 6) (hdg : decode cc pc = .ok (.iastore, 1)) (kk : ∀ (H1 : Heap) (locs1 : List Loc), HY D A ad cI s.heap c t (va_up v i x) S K H1 locs1 → W p l e Rm s m args below meth cd H1 locs1 cells slots Q (F0 m (pc + 1) ls (rest))) : W p l e Rm s m args below meth cd H locs cells slots Q (F0 m pc ls (.int (nI x) :: .int (nI i) :: .ref (ad 1) :: rest)) := by
  refine va_iast G.1.1 G.1.2.1 G.2.1 h.1 h.2.1 h.2.2 1 0 rfl rfl (vp_in_nI hi (by decide)) hdg (fun H1 locs1 hP hD hS => ?_)
  rw [nI_clamp (by omega), nv_upd] at hP hD
  exact kk H1 locs1 ⟨hP, hD, hS⟩
theorem y_ldS (G : GY D A cI p s m args cd cc nL) (h : HY D A ad cI s.heap c t v S K H locs) {i : Nat} {x : Int32} (hi : i < 6) (q : S i = x) (hdg : decode cc pc = .ok (.iaload, 1)) (kk : W p l e Rm s m args below meth cd H locs cells slots Q (F0 m (pc + 1) ls (.int x :: rest))) : W p l e Rm s m args below meth cd H locs cells slots Q (F0 m pc ls (.int (nI i) :: .ref (ad 2) :: rest)) := by
  refine va_iald G.1.1 G.1.2.1 G.2.1 h.1 2 0 rfl rfl (vp_in_nI hi (by decide)) hdg ?_
  rw [nI_clamp (by omega), q]
  exact kk
theorem y_stS (G : GY D A cI p s m args cd cc nL) (h : HY D A ad cI s.heap c t v S K H locs) {i : Nat} {x : Int32} {S' : Nat → Int32} (hi : i < 6) (q : upd S i x = S') (hdg : decode cc pc = .ok (.iastore, 1)) (kk : ∀ (H1 : Heap) (locs1 : List Loc), HY D A ad cI s.heap c t v S' K H1 locs1 → W p l e Rm s m args below meth cd H1 locs1 cells slots Q (F0 m (pc + 1) ls (rest))) : W p l e Rm s m args below meth cd H locs cells slots Q (F0 m pc ls (.int x :: .int (nI i) :: .ref (ad 2) :: rest)) := by
  refine va_iast G.1.1 G.1.2.1 G.2.1 h.1 h.2.1 h.2.2 2 0 rfl rfl (vp_in_nI hi (by decide)) hdg (fun H1 locs1 hP hD hS => ?_)
  rw [nI_clamp (by omega), q] at hP hD
  exact kk H1 locs1 ⟨hP, hD, hS⟩
theorem y_ldK (G : GY D A cI p s m args cd cc nL) (h : HY D A ad cI s.heap c t v S K H locs) {i : Nat} {x : Int32} (hi : i < 6) (q : K i = x) (hdg : decode cc pc = .ok (.iaload, 1)) (kk : W p l e Rm s m args below meth cd H locs cells slots Q (F0 m (pc + 1) ls (.int x :: rest))) : W p l e Rm s m args below meth cd H locs cells slots Q (F0 m pc ls (.int (nI i) :: .ref (ad 3) :: rest)) := by
  refine va_iald G.1.1 G.1.2.1 G.2.1 h.1 3 0 rfl rfl (vp_in_nI hi (by decide)) hdg ?_
  rw [nI_clamp (by omega), q]
  exact kk
theorem y_stK (G : GY D A cI p s m args cd cc nL) (h : HY D A ad cI s.heap c t v S K H locs) {i : Nat} {x : Int32} {K' : Nat → Int32} (hi : i < 6) (q : upd K i x = K') (hdg : decode cc pc = .ok (.iastore, 1)) (kk : ∀ (H1 : Heap) (locs1 : List Loc), HY D A ad cI s.heap c t v S K' H1 locs1 → W p l e Rm s m args below meth cd H1 locs1 cells slots Q (F0 m (pc + 1) ls (rest))) : W p l e Rm s m args below meth cd H locs cells slots Q (F0 m pc ls (.int x :: .int (nI i) :: .ref (ad 3) :: rest)) := by
  refine va_iast G.1.1 G.1.2.1 G.2.1 h.1 h.2.1 h.2.2 3 0 rfl rfl (vp_in_nI hi (by decide)) hdg (fun H1 locs1 hP hD hS => ?_)
  rw [nI_clamp (by omega), q] at hP hD
  exact kk H1 locs1 ⟨hP, hD, hS⟩
theorem y_callr {x : Int32} (G : GY D A cI p s m args cd cc nL) (h : HY D A ad cI s.heap c t v S K H locs) (hM : Mi l D (tyY cI) (WY ad cI) y bytes maxL ret f L (ad 0) As (c, t, v, S, K) (fun r u => r = x ∧ u = (c, t, v, S, K))) (Kc : Cal RX1 RX1 y bytes maxL ret index n) (hn : As.length = n) (hR : f + 1 ≤ Rm.frames ∧ 8 + (maxL + 11) + L ≤ Rm.locals ∧ cells ≤ Rm.cells ∧ slots ≤ Rm.slots) (hsz : ls.size = nL) (hst : st = As.reverse ++ .ref (ad 0) :: rest) (hrs : (rest.map fun v => v.category).sum ≤ 8) (hdg : decode cc pc = .ok (.invokevirtual index, 3)) (kk : ∀ (H1 : Heap) (locs1 : List Loc), HY D A ad cI s.heap c t v S K H1 locs1 → W p l e Rm s m args below meth cd H1 locs1 cells slots Q (F0 m (pc + 3) ls (.int x :: rest))) : W p l e Rm s m args below meth cd H locs cells slots Q (F0 m pc ls st) :=
  W_calli (w := WY ad cI) (u0 := (c, t, v, S, K)) G h hM Kc (va_recv G.2.1 h.1 (ci := 1) (q0 := 0) rfl rfl) hn hR hsz hst hrs hdg (fun r u H1 locs1 hp h1 => by obtain ⟨rfl, rfl⟩ := hp; exact kk H1 locs1 h1)
theorem y_callrl {x : Int64} (G : GY D A cI p s m args cd cc nL) (h : HY D A ad cI s.heap c t v S K H locs) (hM : Ml l D (tyY cI) (WY ad cI) y bytes maxL ret f L (ad 0) As (c, t, v, S, K) (fun r u => r = x ∧ u = (c, t, v, S, K))) (Kc : Cal RX1 RX1 y bytes maxL ret index n) (hn : As.length = n) (hR : f + 1 ≤ Rm.frames ∧ 8 + (maxL + 11) + L ≤ Rm.locals ∧ cells ≤ Rm.cells ∧ slots ≤ Rm.slots) (hsz : ls.size = nL) (hst : st = As.reverse ++ .ref (ad 0) :: rest) (hrs : (rest.map fun v => v.category).sum ≤ 8) (hdg : decode cc pc = .ok (.invokevirtual index, 3)) (kk : ∀ (H1 : Heap) (locs1 : List Loc), HY D A ad cI s.heap c t v S K H1 locs1 → W p l e Rm s m args below meth cd H1 locs1 cells slots Q (F0 m (pc + 3) ls (.long x :: rest))) : W p l e Rm s m args below meth cd H locs cells slots Q (F0 m pc ls st) :=
  W_calll (w := WY ad cI) (u0 := (c, t, v, S, K)) G h hM Kc (va_recv G.2.1 h.1 (ci := 1) (q0 := 0) rfl rfl) hn hR hsz hst hrs hdg (fun r u H1 locs1 hp h1 => by obtain ⟨rfl, rfl⟩ := hp; exact kk H1 locs1 h1)
theorem y_calli {post : Int32 → YS → Prop} (G : GY D A cI p s m args cd cc nL) (h : HY D A ad cI s.heap c t v S K H locs) (hM : Mi l D (tyY cI) (WY ad cI) y bytes maxL ret f L (ad 0) As (c, t, v, S, K) post) (Kc : Cal RX1 RX1 y bytes maxL ret index n) (hn : As.length = n) (hR : f + 1 ≤ Rm.frames ∧ 8 + (maxL + 11) + L ≤ Rm.locals ∧ cells ≤ Rm.cells ∧ slots ≤ Rm.slots) (hsz : ls.size = nL) (hst : st = As.reverse ++ .ref (ad 0) :: rest) (hrs : (rest.map fun v => v.category).sum ≤ 8) (hdg : decode cc pc = .ok (.invokevirtual index, 3)) (kk : ∀ (r : Int32) (c' t' : Nat) (v' : Nat → Nat) (S' K' : Nat → Int32) (H1 : Heap) (locs1 : List Loc), post r (c', t', v', S', K') → HY D A ad cI s.heap c' t' v' S' K' H1 locs1 → W p l e Rm s m args below meth cd H1 locs1 cells slots Q (F0 m (pc + 3) ls (.int r :: rest))) : W p l e Rm s m args below meth cd H locs cells slots Q (F0 m pc ls st) :=
  W_calli (w := WY ad cI) (u0 := (c, t, v, S, K)) G h hM Kc (va_recv G.2.1 h.1 (ci := 1) (q0 := 0) rfl rfl) hn hR hsz hst hrs hdg (fun r u H1 locs1 hp h1 => by obtain ⟨c', t', v', S', K'⟩ := u; exact kk r _ _ _ _ _ H1 locs1 hp h1)
theorem y_callv {post : YS → Prop} (G : GY D A cI p s m args cd cc nL) (h : HY D A ad cI s.heap c t v S K H locs) (hM : Mv l D (tyY cI) (WY ad cI) y bytes maxL ret f L (ad 0) As (c, t, v, S, K) post) (Kc : Cal RX1 RX1 y bytes maxL ret index n) (hn : As.length = n) (hR : f + 1 ≤ Rm.frames ∧ 8 + (maxL + 11) + L ≤ Rm.locals ∧ cells ≤ Rm.cells ∧ slots ≤ Rm.slots) (hsz : ls.size = nL) (hst : st = As.reverse ++ .ref (ad 0) :: rest) (hrs : (rest.map fun v => v.category).sum ≤ 8) (hdg : decode cc pc = .ok (.invokevirtual index, 3)) (kk : ∀ (c' t' : Nat) (v' : Nat → Nat) (S' K' : Nat → Int32) (H1 : Heap) (locs1 : List Loc), post (c', t', v', S', K') → HY D A ad cI s.heap c' t' v' S' K' H1 locs1 → W p l e Rm s m args below meth cd H1 locs1 cells slots Q (F0 m (pc + 3) ls (rest))) : W p l e Rm s m args below meth cd H locs cells slots Q (F0 m pc ls st) :=
  W_callv (w := WY ad cI) (u0 := (c, t, v, S, K)) G h hM Kc (va_recv G.2.1 h.1 (ci := 1) (q0 := 0) rfl rfl) hn hR hsz hst hrs hdg (fun u H1 locs1 hp h1 => by obtain ⟨c', t', v', S', K'⟩ := u; exact kk _ _ _ _ _ H1 locs1 hp h1)
end YR
theorem kY_noVotes : Cal RX1 RX1 yX1_noVotes cX1_noVotes 2 (some .boolean) 23 1 := ⟨lw_V q215 q217 qs16 q29 q218, by decide +kernel⟩
theorem kY_noList : Cal RX1 RX1 yX1_noList cX1_noList 2 (some .boolean) 27 1 := ⟨lw_V q223 q225 qs17 q29 q226, by decide +kernel⟩
theorem kY_votes : Cal RX1 RX1 yX1_votes cX1_votes 3 (some .int) 33 0 := ⟨lw_V q239 q240 q241 q29 q242, by decide +kernel⟩
theorem kY_noRule : Cal RX1 RX1 yX1_noRule cX1_noRule 2 (some .boolean) 56 1 := ⟨lw_V q252 q254 qs18 q29 q255, by decide +kernel⟩
theorem kY_give : Cal RX1 RX1 yX1_give cX1_give 4 none 59 2 := ⟨lw_V q256 q258 qs19 q29 q259, by decide +kernel⟩
theorem kY_giveByQuotients : Cal RX1 RX1 yX1_giveByQuotients cX1_giveByQuotients 6 none 49 2 := ⟨lw_V q260 q262 qs20 q29 q263, by decide +kernel⟩
theorem kY_isGreater : Cal RX1 RX1 yX1_isGreater cX1_isGreater 8 (some .boolean) 45 3 := ⟨lw_V q264 q266 qs21 q29 q267, by decide +kernel⟩
theorem kY_divisor : Cal RX1 RX1 yX1_divisor cX1_divisor 3 (some .long) 38 2 := ⟨lw_V q268 q270 qs22 q29 q271, by decide +kernel⟩
theorem kY_worth : Cal RX1 RX1 yX1_worth cX1_worth 3 (some .long) 42 2 := ⟨lw_V q273 q275 qs23 q29 q276, by decide +kernel⟩
theorem kY_giveByRests : Cal RX1 RX1 yX1_giveByRests cX1_giveByRests 11 none 53 2 := ⟨lw_V q277 q279 qs24 q29 q280, by decide +kernel⟩
theorem kY_keep : Cal RX1 RX1 yX1_keep cX1_keep 2 none 62 0 := ⟨lw_V q285 q287 qs25 q29 q288, by decide +kernel⟩
theorem kY_shareWith : Cal RX1 RX1 yX1_shareWith cX1_shareWith 5 (some .int) 65 3 := ⟨lw_V q293 q295 qs26 q29 q296, by decide +kernel⟩
end
section
set_option maxRecDepth 100000
theorem x_cV {D : va_G} {A : Nat → Prop} {ad : Nat → Nat} {cI cB : ClassId} {H0 H : Heap} {locs : List Loc} {c t : Nat} {v : Nat → Nat} {S K R O : Nat → Int32} {v' : Nat → Nat} (q : v = v') (h : HX D A ad cI cB H0 c t v S K R O H locs) : HX D A ad cI cB H0 c t v' S K R O H locs := q ▸ h
theorem x_cS {D : va_G} {A : Nat → Prop} {ad : Nat → Nat} {cI cB : ClassId} {H0 H : Heap} {locs : List Loc} {c t : Nat} {v : Nat → Nat} {S K R O : Nat → Int32} {S' : Nat → Int32} (q : S = S') (h : HX D A ad cI cB H0 c t v S K R O H locs) : HX D A ad cI cB H0 c t v S' K R O H locs := q ▸ h
theorem x_cK {D : va_G} {A : Nat → Prop} {ad : Nat → Nat} {cI cB : ClassId} {H0 H : Heap} {locs : List Loc} {c t : Nat} {v : Nat → Nat} {S K R O : Nat → Int32} {K' : Nat → Int32} (q : K = K') (h : HX D A ad cI cB H0 c t v S K R O H locs) : HX D A ad cI cB H0 c t v S K' R O H locs := q ▸ h
theorem x_cR {D : va_G} {A : Nat → Prop} {ad : Nat → Nat} {cI cB : ClassId} {H0 H : Heap} {locs : List Loc} {c t : Nat} {v : Nat → Nat} {S K R O : Nat → Int32} {R' : Nat → Int32} (q : R = R') (h : HX D A ad cI cB H0 c t v S K R O H locs) : HX D A ad cI cB H0 c t v S K R' O H locs := q ▸ h
theorem x_cO {D : va_G} {A : Nat → Prop} {ad : Nat → Nat} {cI cB : ClassId} {H0 H : Heap} {locs : List Loc} {c t : Nat} {v : Nat → Nat} {S K R O : Nat → Int32} {O' : Nat → Int32} (q : O = O') (h : HX D A ad cI cB H0 c t v S K R O H locs) : HX D A ad cI cB H0 c t v S K R O' H locs := q ▸ h
theorem x_nC {D : va_G} {A : Nat → Prop} {ad : Nat → Nat} {cI cB : ClassId} {H0 H : Heap} {locs : List Loc} {c t c' : Nat} {v : Nat → Nat} {S K R O : Nat → Int32} (q : c = c') (h : HX D A ad cI cB H0 c t v S K R O H locs) : HX D A ad cI cB H0 c' t v S K R O H locs := q ▸ h
theorem x_nT {D : va_G} {A : Nat → Prop} {ad : Nat → Nat} {cI cB : ClassId} {H0 H : Heap} {locs : List Loc} {c t t' : Nat} {v : Nat → Nat} {S K R O : Nat → Int32} (q : t = t') (h : HX D A ad cI cB H0 c t v S K R O H locs) : HX D A ad cI cB H0 c t' v S K R O H locs := q ▸ h
theorem y_cV {D : va_G} {A : Nat → Prop} {ad : Nat → Nat} {cI : ClassId} {H0 H : Heap} {locs : List Loc} {c t : Nat} {v : Nat → Nat} {S K : Nat → Int32} {v' : Nat → Nat} (q : v = v') (h : HY D A ad cI H0 c t v S K H locs) : HY D A ad cI H0 c t v' S K H locs := q ▸ h
theorem y_cS {D : va_G} {A : Nat → Prop} {ad : Nat → Nat} {cI : ClassId} {H0 H : Heap} {locs : List Loc} {c t : Nat} {v : Nat → Nat} {S K : Nat → Int32} {S' : Nat → Int32} (q : S = S') (h : HY D A ad cI H0 c t v S K H locs) : HY D A ad cI H0 c t v S' K H locs := q ▸ h
theorem y_cK {D : va_G} {A : Nat → Prop} {ad : Nat → Nat} {cI : ClassId} {H0 H : Heap} {locs : List Loc} {c t : Nat} {v : Nat → Nat} {S K : Nat → Int32} {K' : Nat → Int32} (q : K = K') (h : HY D A ad cI H0 c t v S K H locs) : HY D A ad cI H0 c t v S K' H locs := q ▸ h
theorem y_nC {D : va_G} {A : Nat → Prop} {ad : Nat → Nat} {cI : ClassId} {H0 H : Heap} {locs : List Loc} {c t c' : Nat} {v : Nat → Nat} {S K : Nat → Int32} (q : c = c') (h : HY D A ad cI H0 c t v S K H locs) : HY D A ad cI H0 c' t v S K H locs := q ▸ h
theorem y_nT {D : va_G} {A : Nat → Prop} {ad : Nat → Nat} {cI : ClassId} {H0 H : Heap} {locs : List Loc} {c t t' : Nat} {v : Nat → Nat} {S K : Nat → Int32} (q : t = t') (h : HY D A ad cI H0 c t v S K H locs) : HY D A ad cI H0 c t' v S K H locs := q ▸ h
end
section
set_option maxRecDepth 100000
/-! ===== what the methods compute, in plain numbers ===== -/
theorem inc1 (a : Nat) : nI a + Int32.ofInt 1 = nI (a + 1) := nI_1 a
theorem inc3 (a : Nat) : nI a + Int32.ofInt 3 = nI (a + 3) := nI_add a 3
theorem dec1 {a : Nat} (h : 0 < a) : nI a + Int32.ofInt (-1) = nI (a - 1) := sb_m1 h
theorem ix_neg {n : Nat} {a : Int32} (h : a < 0) : ix n a = none := by
  rw [Int32.lt_iff_toInt_lt, Int32.toInt_zero] at h
  unfold ix
  rw [if_neg (by omega)]
theorem ix_big {n : Nat} {a : Int32} (hn : n < 2 ^ 31) (h : ¬ a < nI n) : ix n a = none := by
  rw [Int32.lt_iff_toInt_lt, nI_toInt hn] at h
  unfold ix
  rw [if_neg (by omega)]
theorem ix_mem {n : Nat} {a : Int32} (hn : n < 2 ^ 31) (h0 : ¬ a < 0) (h : a < nI n) : ∃ i, ix n a = some i := by
  rw [Int32.lt_iff_toInt_lt, Int32.toInt_zero] at h0
  rw [Int32.lt_iff_toInt_lt, nI_toInt hn] at h
  unfold ix
  rw [if_pos (by omega)]
  exact ⟨_, rfl⟩
theorem ix_le {n : Nat} {a : Int32} (hn : n + 1 < 2 ^ 31) : a ≤ nI n ↔ a < nI (n + 1) := by
  rw [Int32.lt_iff_toInt_lt, Int32.le_iff_toInt_le, nI_toInt hn, nI_toInt (by omega)]
  omega
/-- the sum of the first places -/
def sumTo (v : Nat → Nat) : Nat → Nat
  | 0 => 0
  | i + 1 => sumTo v i + v i
theorem sumTo_le {v : Nat → Nat} {b : Nat} : ∀ {c : Nat}, (∀ j, j < c → v j ≤ b) → sumTo v c ≤ c * b
  | 0, _ => Nat.zero_le _
  | c + 1, h => by
    have h1 := sumTo_le (c := c) (fun j hj => h j (by omega))
    have h2 := h c (by omega)
    have h3 : (c + 1) * b = c * b + b := Nat.succ_mul c b
    show sumTo v c + v c ≤ _
    omega
theorem sumTo_mono {v : Nat → Nat} {i c : Nat} (h : i ≤ c) : sumTo v i ≤ sumTo v c := by
  induction c with
  | zero => simp at h; subst h; exact Nat.le_refl _
  | succ c ih =>
    by_cases hc : i = c + 1
    · subst hc; exact Nat.le_refl _
    · exact Nat.le_trans (ih (by omega)) (Nat.le_add_right _ _)
theorem sumTo_at {v : Nat → Nat} {i c : Nat} (h : i < c) : v i ≤ sumTo v c :=
  Nat.le_trans (Nat.le_add_left _ _) (sumTo_mono (v := v) (i := i + 1) (c := c) h)
theorem sumTo_congr {v w : Nat → Nat} : ∀ {c : Nat}, (∀ j, j < c → v j = w j) → sumTo v c = sumTo w c
  | 0, _ => rfl
  | c + 1, h => by
    show sumTo v c + v c = sumTo w c + w c
    rw [sumTo_congr (c := c) (fun j hj => h j (by omega)), h c (by omega)]
theorem sumTo_pos {v : Nat → Nat} : ∀ {c : Nat}, 0 < sumTo v c → ∃ j, j < c ∧ 0 < v j
  | 0, h => absurd h (Nat.lt_irrefl 0)
  | c + 1, h => by
    by_cases hv : 0 < v c
    · exact ⟨c, by omega, hv⟩
    · have h2 : 0 < sumTo v c + v c := h
      obtain ⟨j, h3, h4⟩ := sumTo_pos (c := c) (v := v) (by omega)
      exact ⟨j, by omega, h4⟩
theorem vu_ne {f : Nat → Nat} {k x j : Nat} (h : j ≠ k) : va_up f k x j = f j := by simp [va_up, h]
theorem vu_eq {f : Nat → Nat} {k x : Nat} : va_up f k x k = x := by simp [va_up]
theorem sumTo_up {v : Nat → Nat} {i x c : Nat} (h : i < c) : sumTo (va_up v i x) c + v i = sumTo v c + x := by
  induction c with
  | zero => omega
  | succ c ih =>
    show sumTo (va_up v i x) c + va_up v i x c + v i = sumTo v c + v c + x
    by_cases hc : i = c
    · subst hc
      rw [vu_eq, sumTo_congr (v := va_up v i x) (w := v) (fun j hj => vu_ne (by omega))]
      omega
    · have h1 := ih (by omega)
      rw [vu_ne (fun q => hc q.symm)]
      omega
/-- bar: what is under p percent falls to 0 -/
def barV (p all : Nat) (v : Nat → Nat) (k : Nat) : Nat → Nat := fun j => if j < k ∧ 100 * v j < p * all then 0 else v j
def cntP (v : Nat → Nat) : Nat → Nat
  | 0 => 0
  | i + 1 => cntP v i + (if 0 < v i then 1 else 0)
/-- quotients -/
def dv (r k : Nat) : Nat := if r = 0 then k + 1 else if r = 1 then 2 * k + 1 else if r = 2 then (if k = 0 then 7 else 10 * k + 5) else if r = 3 then k * (k + 1) else k
def wo (r : Nat) (v : Nat → Nat) (i : Nat) : Nat := if r = 3 then v i * v i else v i
def bef (r : Nat) (v : Nat → Nat) (i k j l : Nat) : Bool :=
  if dv r k = 0 ∨ dv r l = 0 then (if dv r k = dv r l ∧ wo r v i = wo r v j then decide (i < j) else if dv r k = dv r l then decide (wo r v j < wo r v i) else decide (dv r k = 0))
  else if wo r v i * dv r l = wo r v j * dv r k then decide (i < j) else decide (wo r v j * dv r k < wo r v i * dv r l)
def fnx (r : Nat) (v s : Nat → Nat) (i : Nat) : Option Nat → Option Nat
  | none => if 0 < v i then some i else none
  | some j => if 0 < v i ∧ bef r v i (s i) j (s j) = true then some i else some j
def fnS (r : Nat) (v s : Nat → Nat) : Nat → Option Nat
  | 0 => none
  | i + 1 => fnx r v s i (fnS r v s i)
def ltx (r : Nat) (v s : Nat → Nat) (i : Nat) : Option Nat → Option Nat
  | none => if 0 < s i then some i else none
  | some j => if 0 < s i ∧ bef r v j (s j - 1) i (s i - 1) = true then some i else some j
def ltS (r : Nat) (v s : Nat → Nat) : Nat → Option Nat
  | 0 => none
  | i + 1 => ltx r v s i (ltS r v s i)
theorem fnS_lt {r : Nat} {v s : Nat → Nat} : ∀ {c j : Nat}, fnS r v s c = some j → j < c ∧ 0 < v j
  | 0, j, h => by simp [fnS] at h
  | c + 1, j, h => by
    have h : fnx r v s c (fnS r v s c) = some j := h
    cases hq : fnS r v s c with
    | none =>
      rw [hq] at h
      simp only [fnx] at h
      split at h
      · cases h
        exact ⟨by omega, by assumption⟩
      · cases h
    | some k =>
      have h2 := fnS_lt (c := c) hq
      rw [hq] at h
      simp only [fnx] at h
      split at h
      · rename_i q
        cases h
        exact ⟨by omega, q.1⟩
      · cases h
        exact ⟨by omega, h2.2⟩
theorem ltS_lt {r : Nat} {v s : Nat → Nat} : ∀ {c j : Nat}, ltS r v s c = some j → j < c ∧ 0 < s j
  | 0, j, h => by simp [ltS] at h
  | c + 1, j, h => by
    have h : ltx r v s c (ltS r v s c) = some j := h
    cases hq : ltS r v s c with
    | none =>
      rw [hq] at h
      simp only [ltx] at h
      split at h
      · cases h
        exact ⟨by omega, by assumption⟩
      · cases h
    | some k =>
      have h2 := ltS_lt (c := c) hq
      rw [hq] at h
      simp only [ltx] at h
      split at h
      · rename_i q
        cases h
        exact ⟨by omega, q.1⟩
      · cases h
        exact ⟨by omega, h2.2⟩
theorem fnS_none {r : Nat} {v s : Nat → Nat} : ∀ {c : Nat}, fnS r v s c = none → ∀ j, j < c → v j = 0
  | 0, _, j, hj => by omega
  | c + 1, h, j, hj => by
    have h : fnx r v s c (fnS r v s c) = none := h
    cases hq : fnS r v s c with
    | none =>
      have h2 := fnS_none (c := c) hq
      rw [hq] at h
      simp only [fnx] at h
      split at h
      · cases h
      · by_cases hjc : j = c
        · subst hjc; omega
        · exact h2 j (by omega)
    | some k =>
      rw [hq] at h
      simp only [fnx] at h
      split at h <;> cases h
theorem ltS_none {r : Nat} {v s : Nat → Nat} : ∀ {c : Nat}, ltS r v s c = none → ∀ j, j < c → s j = 0
  | 0, _, j, hj => by omega
  | c + 1, h, j, hj => by
    have h : ltx r v s c (ltS r v s c) = none := h
    cases hq : ltS r v s c with
    | none =>
      have h2 := ltS_none (c := c) hq
      rw [hq] at h
      simp only [ltx] at h
      split at h
      · cases h
      · by_cases hjc : j = c
        · subst hjc; omega
        · exact h2 j (by omega)
    | some k =>
      rw [hq] at h
      simp only [ltx] at h
      split at h <;> cases h
/-- startShare -/
def upx (r all : Nat) : Nat := if r = 3 then all * all else all
def unx (r n : Nat) : Nat := if r = 0 then n + 1 else if r = 1 then 2 * n + 1 else if r = 2 then 10 * n + 5 else if r = 3 then n * (n + 1) else n
def ssF (r : Nat) (v : Nat → Nat) (n all i : Nat) : Nat → Nat → Nat
  | 0, k => k
  | f + 1, k => if 0 < v i ∧ k ≤ n ∧ upx r all * dv r k ≤ wo r v i * unx r n then ssF r v n all i f (k + 1) else k
def s0Q (r : Nat) (v : Nat → Nat) (n all : Nat) : Nat → Nat := fun i => if n = 0 then 0 else ssF r v n all i (n + 2) 0
def dnQ (r : Nat) (v : Nat → Nat) (c : Nat) : Nat → (Nat → Nat) → (Nat → Nat)
  | 0, s => s
  | k + 1, s => match ltS r v s c with
    | none => s
    | some w => dnQ r v c k (va_up s w (s w - 1))
def upQ (r : Nat) (v : Nat → Nat) (c : Nat) : Nat → (Nat → Nat) → (Nat → Nat)
  | 0, s => s
  | k + 1, s => match fnS r v s c with
    | none => s
    | some w => upQ r v c k (va_up s w (s w + 1))
def shQ (r : Nat) (v : Nat → Nat) (c n all : Nat) : Nat → Nat :=
  upQ r v c (n - sumTo (s0Q r v n all) c) (dnQ r v c (sumTo (s0Q r v n all) c - n) (s0Q r v n all))
end
section
set_option maxRecDepth 100000
theorem dv_le {r k : Nat} (h : k ≤ 1000) : dv r k ≤ 1001000 := by
  have h2 : k * (k + 1) ≤ 1000 * 1001 := Nat.mul_le_mul h (by omega)
  unfold dv
  (repeat' split) <;> omega
theorem wo_le {r i : Nat} {v : Nat → Nat} (h : v i ≤ 2999) : wo r v i ≤ 8994001 := by
  have h2 : v i * v i ≤ 2999 * 2999 := Nat.mul_le_mul h h
  unfold wo
  split <;> omega
theorem bI_t {b : Bool} (h : b = true) : bI b = nI 1 := by rw [h]; rfl
theorem bI_f {b : Bool} (h : b = false) : bI b = nI 0 := by rw [h]; rfl
set_option maxHeartbeats 4000000 in
theorem mX_badVotes (l : Launch) (D : va_G) (ad : Nat → Nat) (cI cB : ClassId) (c t : Nat) (v : Nat → Nat) (S K R O : Nat → Int32) (a : Int32) : Mi l D (tyX cI cB) (WX ad cI cB) yX0_badVotes cX0_badVotes 2 (some .boolean) 0 0 (ad 0) [.int a] (c, t, v, S, K, R, O) (fun z u => z = bz (ix 1000 a) ∧ u = (c, t, v, S, K, R, O)) := by
  refine Mi.of (by decide) (Nat.le_of_ble_eq_true rfl) ?_
  intro p e s m args below meth cd A ls Q G hrt h hl hret
  have G : GX D A cI cB p s m args cd cX0_badVotes 2 := G
  have h : HX D A ad cI cB s.heap c t v S K R O s.heap [] := h
  have hl : lv_has ls 2 [(0, .ref (ad 0)), (1, .int a)] := hl
  have hx := G.1.1
  have hb := G.1.2.1
  refine lv_iload_n hx hb dX0_badVotes_0 rfl (lv_at hl 1 rfl) ?_
  refine lv_if_lt (tgt := 11) hx hb dX0_badVotes_1 (by decide) (fun c1 => ?_) (fun c1 => ?_)
  · skip
    refine lv_iconst (v := (nI 1)) hx hb dX0_badVotes_11 (by decide) ?_
    refine lv_goto (tgt := 16) hx hb dX0_badVotes_12 (by decide) ?_
    exact hret _ _ _ _ _ (c, t, v, S, K, R, O) _ h ⟨by rw [ix_neg c1]; rfl, rfl⟩ hrt rfl dX0_badVotes_16
  · skip
    refine lv_iload_n hx hb dX0_badVotes_4 rfl (lv_at hl 1 rfl) ?_
    refine lv_sipush (v := (nI 999)) hx hb dX0_badVotes_5 (by decide) ?_
    refine lv_icmp_le (tgt := 15) hx hb dX0_badVotes_8 (by decide) (fun c8 => ?_) (fun c8 => ?_)
    · skip
      refine lv_iconst (v := (nI 0)) hx hb dX0_badVotes_15 (by decide) ?_
      exact hret _ _ _ _ _ (c, t, v, S, K, R, O) _ h ⟨by obtain ⟨i, q⟩ := ix_mem (by decide) c1 ((ix_le (by decide)).mp c8); rw [q]; rfl, rfl⟩ hrt rfl dX0_badVotes_16
    · skip
      refine lv_iconst (v := (nI 1)) hx hb dX0_badVotes_11 (by decide) ?_
      refine lv_goto (tgt := 16) hx hb dX0_badVotes_12 (by decide) ?_
      exact hret _ _ _ _ _ (c, t, v, S, K, R, O) _ h ⟨by rw [ix_big (by decide) (fun q => c8 ((ix_le (by decide)).mpr q))]; rfl, rfl⟩ hrt rfl dX0_badVotes_16
theorem mX_badVotes0 (l : Launch) (D : va_G) (ad : Nat → Nat) (cI cB : ClassId) (c t : Nat) (v : Nat → Nat) (S K R O : Nat → Int32) (i : Nat) (hi : i < 1000) : Mi l D (tyX cI cB) (WX ad cI cB) yX0_badVotes cX0_badVotes 2 (some .boolean) 0 0 (ad 0) [.int (nI i)] (c, t, v, S, K, R, O) (fun r u => r = nI 0 ∧ u = (c, t, v, S, K, R, O)) := by
  have q := mX_badVotes l D ad cI cB c t v S K R O (nI i)
  rw [ix_nI (by decide) hi] at q
  exact q
theorem mX_badVotes1 (l : Launch) (D : va_G) (ad : Nat → Nat) (cI cB : ClassId) (c t : Nat) (v : Nat → Nat) (S K R O : Nat → Int32) (a : Int32) (ha : ix 1000 a = none) : Mi l D (tyX cI cB) (WX ad cI cB) yX0_badVotes cX0_badVotes 2 (some .boolean) 0 0 (ad 0) [.int a] (c, t, v, S, K, R, O) (fun r u => r = nI 1 ∧ u = (c, t, v, S, K, R, O)) := by
  have q := mX_badVotes l D ad cI cB c t v S K R O a
  rw [ha] at q
  exact q
set_option maxHeartbeats 4000000 in
theorem mX_badRule (l : Launch) (D : va_G) (ad : Nat → Nat) (cI cB : ClassId) (c t : Nat) (v : Nat → Nat) (S K R O : Nat → Int32) (a : Int32) : Mi l D (tyX cI cB) (WX ad cI cB) yX0_badRule cX0_badRule 2 (some .boolean) 0 0 (ad 0) [.int a] (c, t, v, S, K, R, O) (fun z u => z = bz (ix 7 a) ∧ u = (c, t, v, S, K, R, O)) := by
  refine Mi.of (by decide) (Nat.le_of_ble_eq_true rfl) ?_
  intro p e s m args below meth cd A ls Q G hrt h hl hret
  have G : GX D A cI cB p s m args cd cX0_badRule 2 := G
  have h : HX D A ad cI cB s.heap c t v S K R O s.heap [] := h
  have hl : lv_has ls 2 [(0, .ref (ad 0)), (1, .int a)] := hl
  have hx := G.1.1
  have hb := G.1.2.1
  refine lv_iload_n hx hb dX0_badRule_0 rfl (lv_at hl 1 rfl) ?_
  refine lv_if_lt (tgt := 10) hx hb dX0_badRule_1 (by decide) (fun c1 => ?_) (fun c1 => ?_)
  · skip
    refine lv_iconst (v := (nI 1)) hx hb dX0_badRule_10 (by decide) ?_
    refine lv_goto (tgt := 15) hx hb dX0_badRule_11 (by decide) ?_
    exact hret _ _ _ _ _ (c, t, v, S, K, R, O) _ h ⟨by rw [ix_neg c1]; rfl, rfl⟩ hrt rfl dX0_badRule_15
  · skip
    refine lv_iload_n hx hb dX0_badRule_4 rfl (lv_at hl 1 rfl) ?_
    refine lv_bipush (v := (nI 7)) hx hb dX0_badRule_5 (by decide) ?_
    refine lv_icmp_lt (tgt := 14) hx hb dX0_badRule_7 (by decide) (fun c7 => ?_) (fun c7 => ?_)
    · skip
      refine lv_iconst (v := (nI 0)) hx hb dX0_badRule_14 (by decide) ?_
      exact hret _ _ _ _ _ (c, t, v, S, K, R, O) _ h ⟨by obtain ⟨i, q⟩ := ix_mem (by decide) c1 c7; rw [q]; rfl, rfl⟩ hrt rfl dX0_badRule_15
    · skip
      refine lv_iconst (v := (nI 1)) hx hb dX0_badRule_10 (by decide) ?_
      refine lv_goto (tgt := 15) hx hb dX0_badRule_11 (by decide) ?_
      exact hret _ _ _ _ _ (c, t, v, S, K, R, O) _ h ⟨by rw [ix_big (by decide) (fun q => c7 (q))]; rfl, rfl⟩ hrt rfl dX0_badRule_15
theorem mX_badRule0 (l : Launch) (D : va_G) (ad : Nat → Nat) (cI cB : ClassId) (c t : Nat) (v : Nat → Nat) (S K R O : Nat → Int32) (i : Nat) (hi : i < 7) : Mi l D (tyX cI cB) (WX ad cI cB) yX0_badRule cX0_badRule 2 (some .boolean) 0 0 (ad 0) [.int (nI i)] (c, t, v, S, K, R, O) (fun r u => r = nI 0 ∧ u = (c, t, v, S, K, R, O)) := by
  have q := mX_badRule l D ad cI cB c t v S K R O (nI i)
  rw [ix_nI (by decide) hi] at q
  exact q
theorem mX_badRule1 (l : Launch) (D : va_G) (ad : Nat → Nat) (cI cB : ClassId) (c t : Nat) (v : Nat → Nat) (S K R O : Nat → Int32) (a : Int32) (ha : ix 7 a = none) : Mi l D (tyX cI cB) (WX ad cI cB) yX0_badRule cX0_badRule 2 (some .boolean) 0 0 (ad 0) [.int a] (c, t, v, S, K, R, O) (fun r u => r = nI 1 ∧ u = (c, t, v, S, K, R, O)) := by
  have q := mX_badRule l D ad cI cB c t v S K R O a
  rw [ha] at q
  exact q
set_option maxHeartbeats 4000000 in
theorem mX_missingList (l : Launch) (D : va_G) (ad : Nat → Nat) (cI cB : ClassId) (c t : Nat) (v : Nat → Nat) (S K R O : Nat → Int32) (a : Int32) (hc : c ≤ 6) : Mi l D (tyX cI cB) (WX ad cI cB) yX0_missingList cX0_missingList 2 (some .boolean) 0 0 (ad 0) [.int a] (c, t, v, S, K, R, O) (fun z u => z = bz (ix c a) ∧ u = (c, t, v, S, K, R, O)) := by
  refine Mi.of (by decide) (Nat.le_of_ble_eq_true rfl) ?_
  intro p e s m args below meth cd A ls Q G hrt h hl hret
  have G : GX D A cI cB p s m args cd cX0_missingList 2 := G
  have h : HX D A ad cI cB s.heap c t v S K R O s.heap [] := h
  have hl : lv_has ls 2 [(0, .ref (ad 0)), (1, .int a)] := hl
  have hx := G.1.1
  have hb := G.1.2.1
  refine lv_iload_n hx hb dX0_missingList_0 rfl (lv_at hl 1 rfl) ?_
  refine lv_if_lt (tgt := 12) hx hb dX0_missingList_1 (by decide) (fun c1 => ?_) (fun c1 => ?_)
  · skip
    refine lv_iconst (v := (nI 1)) hx hb dX0_missingList_12 (by decide) ?_
    refine lv_goto (tgt := 17) hx hb dX0_missingList_13 (by decide) ?_
    exact hret _ _ _ _ _ (c, t, v, S, K, R, O) _ h ⟨by rw [ix_neg c1]; rfl, rfl⟩ hrt rfl dX0_missingList_17
  · skip
    refine lv_iload_n hx hb dX0_missingList_4 rfl (lv_at hl 1 rfl) ?_
    refine lv_aload_n hx hb dX0_missingList_5 rfl (lv_at hl 0 rfl) ?_
    refine x_getC G h dX0_missingList_6 ?_
    refine lv_icmp_lt (tgt := 16) hx hb dX0_missingList_9 (by decide) (fun c9 => ?_) (fun c9 => ?_)
    · skip
      refine lv_iconst (v := (nI 0)) hx hb dX0_missingList_16 (by decide) ?_
      exact hret _ _ _ _ _ (c, t, v, S, K, R, O) _ h ⟨by obtain ⟨i, q⟩ := ix_mem (by omega) c1 c9; rw [q]; rfl, rfl⟩ hrt rfl dX0_missingList_17
    · skip
      refine lv_iconst (v := (nI 1)) hx hb dX0_missingList_12 (by decide) ?_
      refine lv_goto (tgt := 17) hx hb dX0_missingList_13 (by decide) ?_
      exact hret _ _ _ _ _ (c, t, v, S, K, R, O) _ h ⟨by rw [ix_big (by omega) (fun q => c9 (q))]; rfl, rfl⟩ hrt rfl dX0_missingList_17
theorem mX_missingList0 (l : Launch) (D : va_G) (ad : Nat → Nat) (cI cB : ClassId) (c t : Nat) (v : Nat → Nat) (S K R O : Nat → Int32) (i : Nat) (hc : c ≤ 6) (hi : i < c) : Mi l D (tyX cI cB) (WX ad cI cB) yX0_missingList cX0_missingList 2 (some .boolean) 0 0 (ad 0) [.int (nI i)] (c, t, v, S, K, R, O) (fun r u => r = nI 0 ∧ u = (c, t, v, S, K, R, O)) := by
  have q := mX_missingList l D ad cI cB c t v S K R O (nI i) hc
  rw [ix_nI (by omega) hi] at q
  exact q
theorem mX_missingList1 (l : Launch) (D : va_G) (ad : Nat → Nat) (cI cB : ClassId) (c t : Nat) (v : Nat → Nat) (S K R O : Nat → Int32) (a : Int32) (hc : c ≤ 6) (ha : ix c a = none) : Mi l D (tyX cI cB) (WX ad cI cB) yX0_missingList cX0_missingList 2 (some .boolean) 0 0 (ad 0) [.int a] (c, t, v, S, K, R, O) (fun r u => r = nI 1 ∧ u = (c, t, v, S, K, R, O)) := by
  have q := mX_missingList l D ad cI cB c t v S K R O a hc
  rw [ha] at q
  exact q
set_option maxHeartbeats 4000000 in
theorem mX_allVotes (l : Launch) (D : va_G) (ad : Nat → Nat) (cI cB : ClassId) (c t : Nat) (v : Nat → Nat) (S K R O : Nat → Int32) (hc : c ≤ 6) : Mi l D (tyX cI cB) (WX ad cI cB) yX0_allVotes cX0_allVotes 3 (some .int) 0 0 (ad 0) [] (c, t, v, S, K, R, O) (fun z u => z = nI (sumTo v c) ∧ u = (c, t, v, S, K, R, O)) := by
  refine Mi.of (by decide) (Nat.le_of_ble_eq_true rfl) ?_
  intro p e s m args below meth cd A ls Q G hrt h hl hret
  have G : GX D A cI cB p s m args cd cX0_allVotes 3 := G
  have h : HX D A ad cI cB s.heap c t v S K R O s.heap [] := h
  have hl : lv_has ls 3 [(0, .ref (ad 0))] := hl
  have hx := G.1.1
  have hb := G.1.2.1
  refine lv_iconst (v := (nI 0)) hx hb dX0_allVotes_0 (by decide) ?_
  refine lv_istore_n (lv' := [(1, .int (nI 0)), (0, .ref (ad 0))]) hx hb dX0_allVotes_1 rfl hl (by decide) rfl (fun ls hl => ?_)
  refine lv_iconst (v := (nI 0)) hx hb dX0_allVotes_2 (by decide) ?_
  refine lv_istore_n (lv' := [(2, .int (nI 0)), (1, .int (nI 0)), (0, .ref (ad 0))]) hx hb dX0_allVotes_3 rfl hl (by decide) rfl (fun ls hl => ?_)
  have L4 : ∀ (n4 : Nat) (i : Nat), c - i < n4 → (i ≤ c) → ∀ (H : Heap) (locs : List Loc), HX D A ad cI cB s.heap c t v S K R O H locs → ∀ (ls : Array Slot), lv_has ls 3 [(0, .ref (ad 0)), (1, .int (nI (sumTo v i))), (2, .int (nI i))] → W p l e (rmm 0 0) s m args below meth cd H locs 0 0 Q (F0 m 4 ls []) := by
    intro n4
    induction n4 with
    | zero =>
      intro i hm
      exact absurd hm (Nat.not_lt_zero _)
    | succ n4 ih4 =>
      intro i hm4 hi H locs h ls hl
      refine lv_iload_n hx hb dX0_allVotes_4 rfl (lv_at hl 2 rfl) ?_
      refine lv_aload_n hx hb dX0_allVotes_5 rfl (lv_at hl 0 rfl) ?_
      refine x_getC G h dX0_allVotes_6 ?_
      refine n_icmp_ge (tgt := 27) hx hb dX0_allVotes_9 (by decide) (by omega) (by omega) (fun c9 => ?_) (fun c9 => ?_)
      · skip
        refine lv_iload_n hx hb dX0_allVotes_27 rfl (lv_at hl 1 rfl) ?_
        exact hret _ _ _ _ _ (c, t, v, S, K, R, O) _ h ⟨by rw [show i = c by omega], rfl⟩ hrt rfl dX0_allVotes_28
      · skip
        refine lv_iload_n hx hb dX0_allVotes_12 rfl (lv_at hl 1 rfl) ?_
        refine lv_aload_n hx hb dX0_allVotes_13 rfl (lv_at hl 0 rfl) ?_
        refine x_getV G h dX0_allVotes_14 ?_
        refine lv_iload_n hx hb dX0_allVotes_17 rfl (lv_at hl 2 rfl) ?_
        refine x_ldV G h (by omega) dX0_allVotes_18 ?_
        refine n_iadd hx hb dX0_allVotes_19 ?_
        refine lv_istore_n (lv' := [(1, .int (nI ((sumTo v i) + (v i)))), (0, .ref (ad 0)), (2, .int (nI i))]) hx hb dX0_allVotes_20 rfl hl (by decide) rfl (fun ls hl => ?_)
        refine lv_iinc (v := nI (i + 1)) (lv' := [(2, .int (nI (i + 1))), (1, .int (nI ((sumTo v i) + (v i)))), (0, .ref (ad 0))]) hx hb dX0_allVotes_21 hl (k := 2) rfl (inc1 _) (by decide) rfl (fun ls hl => ?_)
        refine lv_goto (tgt := 4) hx hb dX0_allVotes_24 (by decide) ?_
        exact ih4 (i + 1) (by omega) (by omega) _ _ h _ (lv_sub hl [2, 1, 0] rfl)
  exact L4 _ 0 (Nat.lt_succ_self _) (by omega) _ _ h _ (lv_sub hl [2, 1, 0] rfl)
set_option maxHeartbeats 4000000 in
theorem mX_divisor (l : Launch) (D : va_G) (ad : Nat → Nat) (cI cB : ClassId) (c t : Nat) (v : Nat → Nat) (S K R O : Nat → Int32) (r k : Nat) (hr7 : r < 7) (hk : k ≤ 1000) : Mi l D (tyX cI cB) (WX ad cI cB) yX0_divisor cX0_divisor 3 (some .int) 0 0 (ad 0) [.int (nI r), .int (nI k)] (c, t, v, S, K, R, O) (fun z u => z = nI (dv r k) ∧ u = (c, t, v, S, K, R, O)) := by
  refine Mi.of (by decide) (Nat.le_of_ble_eq_true rfl) ?_
  intro p e s m args below meth cd A ls Q G hrt h hl hret
  have G : GX D A cI cB p s m args cd cX0_divisor 3 := G
  have h : HX D A ad cI cB s.heap c t v S K R O s.heap [] := h
  have hl : lv_has ls 3 [(0, .ref (ad 0)), (1, .int (nI r)), (2, .int (nI k))] := hl
  have hx := G.1.1
  have hb := G.1.2.1
  refine lv_iload_n hx hb dX0_divisor_0 rfl (lv_at hl 1 rfl) ?_
  refine n_if_ne (tgt := 8) hx hb dX0_divisor_1 (by decide) (by omega) (fun c1 => ?_) (fun c1 => ?_)
  · skip
    refine lv_iload_n hx hb dX0_divisor_8 rfl (lv_at hl 1 rfl) ?_
    refine lv_iconst (v := (nI 1)) hx hb dX0_divisor_9 (by decide) ?_
    refine n_icmp_ne (tgt := 19) hx hb dX0_divisor_10 (by decide) (by omega) (by omega) (fun c10 => ?_) (fun c10 => ?_)
    · skip
      refine lv_iload_n hx hb dX0_divisor_19 rfl (lv_at hl 1 rfl) ?_
      refine lv_iconst (v := (nI 2)) hx hb dX0_divisor_20 (by decide) ?_
      refine n_icmp_ne (tgt := 40) hx hb dX0_divisor_21 (by decide) (by omega) (by omega) (fun c21 => ?_) (fun c21 => ?_)
      · skip
        refine lv_iload_n hx hb dX0_divisor_40 rfl (lv_at hl 1 rfl) ?_
        refine lv_iconst (v := (nI 3)) hx hb dX0_divisor_41 (by decide) ?_
        refine n_icmp_ne (tgt := 53) hx hb dX0_divisor_42 (by decide) (by omega) (by omega) (fun c42 => ?_) (fun c42 => ?_)
        · skip
          refine lv_iload_n hx hb dX0_divisor_53 rfl (lv_at hl 2 rfl) ?_
          exact hret _ _ _ _ _ (c, t, v, S, K, R, O) _ h ⟨congrArg nI (by unfold dv; (repeat' split) <;> omega), rfl⟩ hrt rfl dX0_divisor_54
        · skip
          refine lv_iload_n hx hb dX0_divisor_45 rfl (lv_at hl 2 rfl) ?_
          refine lv_iload_n hx hb dX0_divisor_46 rfl (lv_at hl 2 rfl) ?_
          refine lv_iconst (v := (nI 1)) hx hb dX0_divisor_47 (by decide) ?_
          refine n_iadd hx hb dX0_divisor_48 ?_
          refine n_imul hx hb dX0_divisor_49 ?_
          refine lv_goto (tgt := 54) hx hb dX0_divisor_50 (by decide) ?_
          exact hret _ _ _ _ _ (c, t, v, S, K, R, O) _ h ⟨congrArg nI (by unfold dv; (repeat' split) <;> omega), rfl⟩ hrt rfl dX0_divisor_54
      · skip
        refine lv_iload_n hx hb dX0_divisor_24 rfl (lv_at hl 2 rfl) ?_
        refine n_if_ne (tgt := 33) hx hb dX0_divisor_25 (by decide) (by omega) (fun c25 => ?_) (fun c25 => ?_)
        · skip
          refine lv_bipush (v := (nI 10)) hx hb dX0_divisor_33 (by decide) ?_
          refine lv_iload_n hx hb dX0_divisor_35 rfl (lv_at hl 2 rfl) ?_
          refine n_imul hx hb dX0_divisor_36 ?_
          refine lv_iconst (v := (nI 5)) hx hb dX0_divisor_37 (by decide) ?_
          refine n_iadd hx hb dX0_divisor_38 ?_
          exact hret _ _ _ _ _ (c, t, v, S, K, R, O) _ h ⟨congrArg nI (by unfold dv; (repeat' split) <;> omega), rfl⟩ hrt rfl dX0_divisor_39
        · skip
          refine lv_bipush (v := (nI 7)) hx hb dX0_divisor_28 (by decide) ?_
          refine lv_goto (tgt := 39) hx hb dX0_divisor_30 (by decide) ?_
          exact hret _ _ _ _ _ (c, t, v, S, K, R, O) _ h ⟨congrArg nI (by unfold dv; (repeat' split) <;> omega), rfl⟩ hrt rfl dX0_divisor_39
    · skip
      refine lv_iconst (v := (nI 2)) hx hb dX0_divisor_13 (by decide) ?_
      refine lv_iload_n hx hb dX0_divisor_14 rfl (lv_at hl 2 rfl) ?_
      refine n_imul hx hb dX0_divisor_15 ?_
      refine lv_iconst (v := (nI 1)) hx hb dX0_divisor_16 (by decide) ?_
      refine n_iadd hx hb dX0_divisor_17 ?_
      exact hret _ _ _ _ _ (c, t, v, S, K, R, O) _ h ⟨congrArg nI (by unfold dv; (repeat' split) <;> omega), rfl⟩ hrt rfl dX0_divisor_18
  · skip
    refine lv_iload_n hx hb dX0_divisor_4 rfl (lv_at hl 2 rfl) ?_
    refine lv_iconst (v := (nI 1)) hx hb dX0_divisor_5 (by decide) ?_
    refine n_iadd hx hb dX0_divisor_6 ?_
    exact hret _ _ _ _ _ (c, t, v, S, K, R, O) _ h ⟨congrArg nI (by unfold dv; (repeat' split) <;> omega), rfl⟩ hrt rfl dX0_divisor_7
set_option maxHeartbeats 4000000 in
theorem mX_worth (l : Launch) (D : va_G) (ad : Nat → Nat) (cI cB : ClassId) (c t : Nat) (v : Nat → Nat) (S K R O : Nat → Int32) (r i : Nat) (hr7 : r < 7) (hi : i < 6) (hv : v i ≤ 2999) : Ml l D (tyX cI cB) (WX ad cI cB) yX0_worth cX0_worth 5 (some .long) 0 0 (ad 0) [.int (nI r), .int (nI i)] (c, t, v, S, K, R, O) (fun z u => z = lN (wo r v i) ∧ u = (c, t, v, S, K, R, O)) := by
  refine Ml.of (by decide) (Nat.le_of_ble_eq_true rfl) rfl ?_
  intro p e s m args below meth cd A ls Q G h hl hret
  have G : GX D A cI cB p s m args cd cX0_worth 5 := G
  have h : HX D A ad cI cB s.heap c t v S K R O s.heap [] := h
  have hl : lv_has ls 5 [(0, .ref (ad 0)), (1, .int (nI r)), (2, .int (nI i))] := hl
  have hx := G.1.1
  have hb := G.1.2.1
  refine lv_aload_n hx hb dX0_worth_0 rfl (lv_at hl 0 rfl) ?_
  refine x_getV G h dX0_worth_1 ?_
  refine lv_iload_n hx hb dX0_worth_4 rfl (lv_at hl 2 rfl) ?_
  refine x_ldV G h (by omega) dX0_worth_5 ?_
  refine n_i2l hx hb dX0_worth_6 (by omega) ?_
  refine lv_lstore_n (lv' := [(3, .long (lN (v i))), (0, .ref (ad 0)), (1, .int (nI r)), (2, .int (nI i))]) hx hb dX0_worth_7 rfl hl (by decide) rfl (fun ls hl => ?_)
  refine lv_iload_n hx hb dX0_worth_8 rfl (lv_at hl 2 rfl) ?_
  refine lv_iconst (v := (nI 3)) hx hb dX0_worth_9 (by decide) ?_
  refine n_icmp_ne (tgt := 19) hx hb dX0_worth_10 (by decide) (by omega) (by omega) (fun c10 => ?_) (fun c10 => ?_)
  · skip
    refine lv_lload_n hx hb dX0_worth_19 rfl (lv_at hl 0 rfl) ?_
    exact hret _ _ _ _ _ (c, t, v, S, K, R, O) h ⟨congrArg lN (by unfold wo; split <;> first | rfl | omega), rfl⟩ dX0_worth_20
  · skip
    refine lv_lload_n hx hb dX0_worth_13 rfl (lv_at hl 0 rfl) ?_
    refine lv_lload_n hx hb dX0_worth_14 rfl (lv_at hl 0 rfl) ?_
    refine n_lmul hx hb dX0_worth_15 ?_
    refine lv_goto (tgt := 20) hx hb dX0_worth_16 (by decide) ?_
    exact hret _ _ _ _ _ (c, t, v, S, K, R, O) h ⟨congrArg lN (by unfold wo; split <;> first | rfl | omega), rfl⟩ dX0_worth_20
set_option maxHeartbeats 4000000 in
theorem mX_before (l : Launch) (D : va_G) (ad : Nat → Nat) (cI cB : ClassId) (c t : Nat) (v : Nat → Nat) (S K R O : Nat → Int32) (r i k j q : Nat) (hr7 : r < 7) (hi : i < 6) (hj : j < 6) (hvi : v i ≤ 2999) (hvj : v j ≤ 2999) (hk : k ≤ 1000) (hq : q ≤ 1000) : Mi l D (tyX cI cB) (WX ad cI cB) yX0_before cX0_before 18 (some .boolean) 1 24 (ad 0) [.int (nI r), .int (nI i), .int (nI k), .int (nI j), .int (nI q)] (c, t, v, S, K, R, O) (fun z u => z = bI (bef r v i k j q) ∧ u = (c, t, v, S, K, R, O)) := by
  refine Mi.of (by decide) (Nat.le_of_ble_eq_true rfl) ?_
  intro p e s m args below meth cd A ls Q G hrt h hl hret
  have G : GX D A cI cB p s m args cd cX0_before 18 := G
  have h : HX D A ad cI cB s.heap c t v S K R O s.heap [] := h
  have hl : lv_has ls 18 [(0, .ref (ad 0)), (1, .int (nI r)), (2, .int (nI i)), (3, .int (nI k)), (4, .int (nI j)), (5, .int (nI q))] := hl
  have hx := G.1.1
  have hb := G.1.2.1
  have b1 := dv_le (r := r) hk
  have b2 := dv_le (r := r) hq
  have b3 := wo_le (r := r) hvi
  have b4 := wo_le (r := r) hvj
  have b5 := Nat.mul_le_mul b3 b2
  have b6 := Nat.mul_le_mul b4 b1
  refine lv_aload_n hx hb dX0_before_0 rfl (lv_at hl 0 rfl) ?_
  refine lv_iload_n hx hb dX0_before_1 rfl (lv_at hl 1 rfl) ?_
  refine lv_iload_n hx hb dX0_before_2 rfl (lv_at hl 3 rfl) ?_
  refine x_callr (x := (nI (dv r k))) G h (mX_divisor l D ad cI cB c t v S K R O r k (by omega) (by omega)) kX_divisor rfl ⟨Nat.le_of_ble_eq_true rfl, Nat.le_of_ble_eq_true rfl, Nat.le_refl _, Nat.le_refl _⟩ hl.1 rfl (Nat.le_of_ble_eq_true rfl) dX0_before_3 (fun H locs h => ?_)
  refine n_i2l hx hb dX0_before_6 (by omega) ?_
  refine lv_lstore (lv' := [(6, .long (lN (dv r k))), (0, .ref (ad 0)), (1, .int (nI r)), (2, .int (nI i)), (3, .int (nI k)), (4, .int (nI j)), (5, .int (nI q))]) hx hb dX0_before_7 hl (by decide) rfl (fun ls hl => ?_)
  refine lv_aload_n hx hb dX0_before_9 rfl (lv_at hl 1 rfl) ?_
  refine lv_iload_n hx hb dX0_before_10 rfl (lv_at hl 2 rfl) ?_
  refine lv_iload hx hb dX0_before_11 (lv_at hl 6 rfl) ?_
  refine x_callr (x := (nI (dv r q))) G h (mX_divisor l D ad cI cB c t v S K R O r q (by omega) (by omega)) kX_divisor rfl ⟨Nat.le_of_ble_eq_true rfl, Nat.le_of_ble_eq_true rfl, Nat.le_refl _, Nat.le_refl _⟩ hl.1 rfl (Nat.le_of_ble_eq_true rfl) dX0_before_13 (fun H locs h => ?_)
  refine n_i2l hx hb dX0_before_16 (by omega) ?_
  refine lv_lstore (lv' := [(8, .long (lN (dv r q))), (6, .long (lN (dv r k))), (0, .ref (ad 0)), (1, .int (nI r)), (2, .int (nI i)), (3, .int (nI k)), (4, .int (nI j)), (5, .int (nI q))]) hx hb dX0_before_17 hl (by decide) rfl (fun ls hl => ?_)
  refine lv_aload_n hx hb dX0_before_19 rfl (lv_at hl 2 rfl) ?_
  refine lv_iload_n hx hb dX0_before_20 rfl (lv_at hl 3 rfl) ?_
  refine lv_iload_n hx hb dX0_before_21 rfl (lv_at hl 4 rfl) ?_
  refine x_callrl (x := (lN (wo r v i))) G h (mX_worth l D ad cI cB c t v S K R O r i (by omega) (by omega) hvi) kX_worth rfl ⟨Nat.le_of_ble_eq_true rfl, Nat.le_of_ble_eq_true rfl, Nat.le_refl _, Nat.le_refl _⟩ hl.1 rfl (Nat.le_of_ble_eq_true rfl) dX0_before_22 (fun H locs h => ?_)
  refine lv_lstore (lv' := [(10, .long (lN (wo r v i))), (8, .long (lN (dv r q))), (6, .long (lN (dv r k))), (0, .ref (ad 0)), (1, .int (nI r)), (2, .int (nI i)), (3, .int (nI k)), (4, .int (nI j)), (5, .int (nI q))]) hx hb dX0_before_25 hl (by decide) rfl (fun ls hl => ?_)
  refine lv_aload_n hx hb dX0_before_27 rfl (lv_at hl 3 rfl) ?_
  refine lv_iload_n hx hb dX0_before_28 rfl (lv_at hl 4 rfl) ?_
  refine lv_iload hx hb dX0_before_29 (lv_at hl 7 rfl) ?_
  refine x_callrl (x := (lN (wo r v j))) G h (mX_worth l D ad cI cB c t v S K R O r j (by omega) (by omega) hvj) kX_worth rfl ⟨Nat.le_of_ble_eq_true rfl, Nat.le_of_ble_eq_true rfl, Nat.le_refl _, Nat.le_refl _⟩ hl.1 rfl (Nat.le_of_ble_eq_true rfl) dX0_before_31 (fun H locs h => ?_)
  refine lv_lstore (lv' := [(12, .long (lN (wo r v j))), (10, .long (lN (wo r v i))), (8, .long (lN (dv r q))), (6, .long (lN (dv r k))), (0, .ref (ad 0)), (1, .int (nI r)), (2, .int (nI i)), (3, .int (nI k)), (4, .int (nI j)), (5, .int (nI q))]) hx hb dX0_before_34 hl (by decide) rfl (fun ls hl => ?_)
  refine lv_lload hx hb dX0_before_36 (lv_at hl 3 rfl) ?_
  refine lv_lconst (v := lN 0) hx hb dX0_before_38 (by decide) ?_
  refine n_lc_eq (tgt := 50) hx hb dX0_before_39 dX0_before_40 (by decide) (by omega) (by omega) (fun c39 => ?_) (fun c39 => ?_)
  · skip
    refine lv_lload hx hb dX0_before_50 (lv_at hl 3 rfl) ?_
    refine lv_lload hx hb dX0_before_52 (lv_at hl 2 rfl) ?_
    refine n_lc_ne (tgt := 70) hx hb dX0_before_54 dX0_before_55 (by decide) (by omega) (by omega) (fun c54 => ?_) (fun c54 => ?_)
    · skip
      refine lv_iconst (v := (bI false)) hx hb dX0_before_70 (by decide) ?_
      refine lv_istore (lv' := [(14, .int (bI false)), (12, .long (lN (wo r v j))), (10, .long (lN (wo r v i))), (8, .long (lN (dv r q))), (6, .long (lN (dv r k))), (0, .ref (ad 0)), (1, .int (nI r)), (2, .int (nI i)), (3, .int (nI k)), (4, .int (nI j)), (5, .int (nI q))]) hx hb dX0_before_71 hl (by decide) rfl (fun ls hl => ?_)
      refine lv_iload hx hb dX0_before_73 (lv_at hl 0 rfl) ?_
      refine b_if_eq (tgt := 92) hx hb dX0_before_75 (by decide) (fun c75 => ?_) (fun c75 => absurd c75 (by decide))
      refine lv_lload hx hb dX0_before_92 (lv_at hl 4 rfl) ?_
      refine lv_lload hx hb dX0_before_94 (lv_at hl 3 rfl) ?_
      refine n_lc_ne (tgt := 116) hx hb dX0_before_96 dX0_before_97 (by decide) (by omega) (by omega) (fun c96 => ?_) (fun c96 => ?_)
      · skip
        refine lv_lload hx hb dX0_before_116 (lv_at hl 4 rfl) ?_
        refine lv_lconst (v := lN 0) hx hb dX0_before_118 (by decide) ?_
        refine n_lc_ne (tgt := 127) hx hb dX0_before_119 dX0_before_120 (by decide) (by omega) (by omega) (fun c119 => ?_) (fun c119 => ?_)
        · skip
          refine lv_iconst (v := (nI 0)) hx hb dX0_before_127 (by decide) ?_
          exact hret _ _ _ _ _ (c, t, v, S, K, R, O) _ h ⟨(bI_f (by unfold bef; (repeat' split) <;> first | (exact decide_eq_false (by omega)) | (exfalso; omega))).symm, rfl⟩ hrt rfl dX0_before_128
        · skip
          refine lv_iconst (v := (nI 1)) hx hb dX0_before_123 (by decide) ?_
          refine lv_goto (tgt := 128) hx hb dX0_before_124 (by decide) ?_
          exact hret _ _ _ _ _ (c, t, v, S, K, R, O) _ h ⟨(bI_t (by unfold bef; (repeat' split) <;> first | (exact decide_eq_true (by omega)) | (exfalso; omega))).symm, rfl⟩ hrt rfl dX0_before_128
      · skip
        refine lv_lload hx hb dX0_before_100 (lv_at hl 2 rfl) ?_
        refine lv_lload hx hb dX0_before_102 (lv_at hl 1 rfl) ?_
        refine n_lc_le (tgt := 112) hx hb dX0_before_104 dX0_before_105 (by decide) (by omega) (by omega) (fun c104 => ?_) (fun c104 => ?_)
        · skip
          refine lv_iconst (v := (nI 0)) hx hb dX0_before_112 (by decide) ?_
          refine lv_goto (tgt := 128) hx hb dX0_before_113 (by decide) ?_
          exact hret _ _ _ _ _ (c, t, v, S, K, R, O) _ h ⟨(bI_f (by unfold bef; (repeat' split) <;> first | (exact decide_eq_false (by omega)) | (exfalso; omega))).symm, rfl⟩ hrt rfl dX0_before_128
        · skip
          refine lv_iconst (v := (nI 1)) hx hb dX0_before_108 (by decide) ?_
          refine lv_goto (tgt := 128) hx hb dX0_before_109 (by decide) ?_
          exact hret _ _ _ _ _ (c, t, v, S, K, R, O) _ h ⟨(bI_t (by unfold bef; (repeat' split) <;> first | (exact decide_eq_true (by omega)) | (exfalso; omega))).symm, rfl⟩ hrt rfl dX0_before_128
    · skip
      refine lv_lload hx hb dX0_before_58 (lv_at hl 1 rfl) ?_
      refine lv_lload hx hb dX0_before_60 (lv_at hl 0 rfl) ?_
      refine n_lc_ne (tgt := 70) hx hb dX0_before_62 dX0_before_63 (by decide) (by omega) (by omega) (fun c62 => ?_) (fun c62 => ?_)
      · skip
        refine lv_iconst (v := (bI false)) hx hb dX0_before_70 (by decide) ?_
        refine lv_istore (lv' := [(14, .int (bI false)), (12, .long (lN (wo r v j))), (10, .long (lN (wo r v i))), (8, .long (lN (dv r q))), (6, .long (lN (dv r k))), (0, .ref (ad 0)), (1, .int (nI r)), (2, .int (nI i)), (3, .int (nI k)), (4, .int (nI j)), (5, .int (nI q))]) hx hb dX0_before_71 hl (by decide) rfl (fun ls hl => ?_)
        refine lv_iload hx hb dX0_before_73 (lv_at hl 0 rfl) ?_
        refine b_if_eq (tgt := 92) hx hb dX0_before_75 (by decide) (fun c75 => ?_) (fun c75 => absurd c75 (by decide))
        refine lv_lload hx hb dX0_before_92 (lv_at hl 4 rfl) ?_
        refine lv_lload hx hb dX0_before_94 (lv_at hl 3 rfl) ?_
        refine n_lc_ne (tgt := 116) hx hb dX0_before_96 dX0_before_97 (by decide) (by omega) (by omega) (fun c96 => ?_) (fun c96 => ?_)
        · skip
          refine lv_lload hx hb dX0_before_116 (lv_at hl 4 rfl) ?_
          refine lv_lconst (v := lN 0) hx hb dX0_before_118 (by decide) ?_
          refine n_lc_ne (tgt := 127) hx hb dX0_before_119 dX0_before_120 (by decide) (by omega) (by omega) (fun c119 => ?_) (fun c119 => ?_)
          · skip
            refine lv_iconst (v := (nI 0)) hx hb dX0_before_127 (by decide) ?_
            exact hret _ _ _ _ _ (c, t, v, S, K, R, O) _ h ⟨(bI_f (by unfold bef; (repeat' split) <;> first | (exact decide_eq_false (by omega)) | (exfalso; omega))).symm, rfl⟩ hrt rfl dX0_before_128
          · skip
            refine lv_iconst (v := (nI 1)) hx hb dX0_before_123 (by decide) ?_
            refine lv_goto (tgt := 128) hx hb dX0_before_124 (by decide) ?_
            exact hret _ _ _ _ _ (c, t, v, S, K, R, O) _ h ⟨(bI_t (by unfold bef; (repeat' split) <;> first | (exact decide_eq_true (by omega)) | (exfalso; omega))).symm, rfl⟩ hrt rfl dX0_before_128
        · skip
          refine lv_lload hx hb dX0_before_100 (lv_at hl 2 rfl) ?_
          refine lv_lload hx hb dX0_before_102 (lv_at hl 1 rfl) ?_
          refine n_lc_le (tgt := 112) hx hb dX0_before_104 dX0_before_105 (by decide) (by omega) (by omega) (fun c104 => ?_) (fun c104 => ?_)
          · skip
            refine lv_iconst (v := (nI 0)) hx hb dX0_before_112 (by decide) ?_
            refine lv_goto (tgt := 128) hx hb dX0_before_113 (by decide) ?_
            exact hret _ _ _ _ _ (c, t, v, S, K, R, O) _ h ⟨(bI_f (by unfold bef; (repeat' split) <;> first | (exact decide_eq_false (by omega)) | (exfalso; omega))).symm, rfl⟩ hrt rfl dX0_before_128
          · skip
            refine lv_iconst (v := (nI 1)) hx hb dX0_before_108 (by decide) ?_
            refine lv_goto (tgt := 128) hx hb dX0_before_109 (by decide) ?_
            exact hret _ _ _ _ _ (c, t, v, S, K, R, O) _ h ⟨(bI_t (by unfold bef; (repeat' split) <;> first | (exact decide_eq_true (by omega)) | (exfalso; omega))).symm, rfl⟩ hrt rfl dX0_before_128
      · skip
        refine lv_iconst (v := (bI true)) hx hb dX0_before_66 (by decide) ?_
        refine lv_goto (tgt := 71) hx hb dX0_before_67 (by decide) ?_
        refine lv_istore (lv' := [(14, .int (bI true)), (12, .long (lN (wo r v j))), (10, .long (lN (wo r v i))), (8, .long (lN (dv r q))), (6, .long (lN (dv r k))), (0, .ref (ad 0)), (1, .int (nI r)), (2, .int (nI i)), (3, .int (nI k)), (4, .int (nI j)), (5, .int (nI q))]) hx hb dX0_before_71 hl (by decide) rfl (fun ls hl => ?_)
        refine lv_iload hx hb dX0_before_73 (lv_at hl 0 rfl) ?_
        refine b_if_eq (tgt := 92) hx hb dX0_before_75 (by decide) (fun c75 => absurd c75 (by decide)) (fun c75 => ?_)
        refine lv_iload_n hx hb dX0_before_78 rfl (lv_at hl 7 rfl) ?_
        refine lv_iload hx hb dX0_before_79 (lv_at hl 9 rfl) ?_
        refine n_icmp_ge (tgt := 88) hx hb dX0_before_81 (by decide) (by omega) (by omega) (fun c81 => ?_) (fun c81 => ?_)
        · skip
          refine lv_iconst (v := (nI 0)) hx hb dX0_before_88 (by decide) ?_
          refine lv_goto (tgt := 128) hx hb dX0_before_89 (by decide) ?_
          exact hret _ _ _ _ _ (c, t, v, S, K, R, O) _ h ⟨(bI_f (by unfold bef; (repeat' split) <;> first | (exact decide_eq_false (by omega)) | (exfalso; omega))).symm, rfl⟩ hrt rfl dX0_before_128
        · skip
          refine lv_iconst (v := (nI 1)) hx hb dX0_before_84 (by decide) ?_
          refine lv_goto (tgt := 128) hx hb dX0_before_85 (by decide) ?_
          exact hret _ _ _ _ _ (c, t, v, S, K, R, O) _ h ⟨(bI_t (by unfold bef; (repeat' split) <;> first | (exact decide_eq_true (by omega)) | (exfalso; omega))).symm, rfl⟩ hrt rfl dX0_before_128
  · skip
    refine lv_lload hx hb dX0_before_43 (lv_at hl 2 rfl) ?_
    refine lv_lconst (v := lN 0) hx hb dX0_before_45 (by decide) ?_
    refine n_lc_ne (tgt := 129) hx hb dX0_before_46 dX0_before_47 (by decide) (by omega) (by omega) (fun c46 => ?_) (fun c46 => ?_)
    · skip
      refine lv_lload hx hb dX0_before_129 (lv_at hl 1 rfl) ?_
      refine lv_lload hx hb dX0_before_131 (lv_at hl 2 rfl) ?_
      refine n_lmul hx hb dX0_before_133 ?_
      refine lv_lstore (lv' := [(14, .long (lN ((wo r v i) * (dv r q)))), (12, .long (lN (wo r v j))), (10, .long (lN (wo r v i))), (8, .long (lN (dv r q))), (6, .long (lN (dv r k))), (0, .ref (ad 0)), (1, .int (nI r)), (2, .int (nI i)), (3, .int (nI k)), (4, .int (nI j)), (5, .int (nI q))]) hx hb dX0_before_134 hl (by decide) rfl (fun ls hl => ?_)
      refine lv_lload hx hb dX0_before_136 (lv_at hl 1 rfl) ?_
      refine lv_lload hx hb dX0_before_138 (lv_at hl 4 rfl) ?_
      refine n_lmul hx hb dX0_before_140 ?_
      refine lv_lstore (lv' := [(16, .long (lN ((wo r v j) * (dv r k)))), (14, .long (lN ((wo r v i) * (dv r q)))), (12, .long (lN (wo r v j))), (10, .long (lN (wo r v i))), (8, .long (lN (dv r q))), (6, .long (lN (dv r k))), (0, .ref (ad 0)), (1, .int (nI r)), (2, .int (nI i)), (3, .int (nI k)), (4, .int (nI j)), (5, .int (nI q))]) hx hb dX0_before_141 hl (by decide) rfl (fun ls hl => ?_)
      refine lv_lload hx hb dX0_before_143 (lv_at hl 1 rfl) ?_
      refine lv_lload hx hb dX0_before_145 (lv_at hl 0 rfl) ?_
      refine n_lc_ne (tgt := 165) hx hb dX0_before_147 dX0_before_148 (by decide) (by omega) (by omega) (fun c147 => ?_) (fun c147 => ?_)
      · skip
        refine lv_lload hx hb dX0_before_165 (lv_at hl 1 rfl) ?_
        refine lv_lload hx hb dX0_before_167 (lv_at hl 0 rfl) ?_
        refine n_lc_le (tgt := 177) hx hb dX0_before_169 dX0_before_170 (by decide) (by omega) (by omega) (fun c169 => ?_) (fun c169 => ?_)
        · skip
          refine lv_iconst (v := (nI 0)) hx hb dX0_before_177 (by decide) ?_
          exact hret _ _ _ _ _ (c, t, v, S, K, R, O) _ h ⟨(bI_f (by unfold bef; (repeat' split) <;> first | (exact decide_eq_false (by omega)) | (exfalso; omega))).symm, rfl⟩ hrt rfl dX0_before_178
        · skip
          refine lv_iconst (v := (nI 1)) hx hb dX0_before_173 (by decide) ?_
          refine lv_goto (tgt := 178) hx hb dX0_before_174 (by decide) ?_
          exact hret _ _ _ _ _ (c, t, v, S, K, R, O) _ h ⟨(bI_t (by unfold bef; (repeat' split) <;> first | (exact decide_eq_true (by omega)) | (exfalso; omega))).symm, rfl⟩ hrt rfl dX0_before_178
      · skip
        refine lv_iload_n hx hb dX0_before_151 rfl (lv_at hl 8 rfl) ?_
        refine lv_iload hx hb dX0_before_152 (lv_at hl 10 rfl) ?_
        refine n_icmp_ge (tgt := 161) hx hb dX0_before_154 (by decide) (by omega) (by omega) (fun c154 => ?_) (fun c154 => ?_)
        · skip
          refine lv_iconst (v := (nI 0)) hx hb dX0_before_161 (by decide) ?_
          refine lv_goto (tgt := 178) hx hb dX0_before_162 (by decide) ?_
          exact hret _ _ _ _ _ (c, t, v, S, K, R, O) _ h ⟨(bI_f (by unfold bef; (repeat' split) <;> first | (exact decide_eq_false (by omega)) | (exfalso; omega))).symm, rfl⟩ hrt rfl dX0_before_178
        · skip
          refine lv_iconst (v := (nI 1)) hx hb dX0_before_157 (by decide) ?_
          refine lv_goto (tgt := 178) hx hb dX0_before_158 (by decide) ?_
          exact hret _ _ _ _ _ (c, t, v, S, K, R, O) _ h ⟨(bI_t (by unfold bef; (repeat' split) <;> first | (exact decide_eq_true (by omega)) | (exfalso; omega))).symm, rfl⟩ hrt rfl dX0_before_178
    · skip
      refine lv_lload hx hb dX0_before_50 (lv_at hl 3 rfl) ?_
      refine lv_lload hx hb dX0_before_52 (lv_at hl 2 rfl) ?_
      refine n_lc_ne (tgt := 70) hx hb dX0_before_54 dX0_before_55 (by decide) (by omega) (by omega) (fun c54 => ?_) (fun c54 => ?_)
      · skip
        refine lv_iconst (v := (bI false)) hx hb dX0_before_70 (by decide) ?_
        refine lv_istore (lv' := [(14, .int (bI false)), (12, .long (lN (wo r v j))), (10, .long (lN (wo r v i))), (8, .long (lN (dv r q))), (6, .long (lN (dv r k))), (0, .ref (ad 0)), (1, .int (nI r)), (2, .int (nI i)), (3, .int (nI k)), (4, .int (nI j)), (5, .int (nI q))]) hx hb dX0_before_71 hl (by decide) rfl (fun ls hl => ?_)
        refine lv_iload hx hb dX0_before_73 (lv_at hl 0 rfl) ?_
        refine b_if_eq (tgt := 92) hx hb dX0_before_75 (by decide) (fun c75 => ?_) (fun c75 => absurd c75 (by decide))
        refine lv_lload hx hb dX0_before_92 (lv_at hl 4 rfl) ?_
        refine lv_lload hx hb dX0_before_94 (lv_at hl 3 rfl) ?_
        refine n_lc_ne (tgt := 116) hx hb dX0_before_96 dX0_before_97 (by decide) (by omega) (by omega) (fun c96 => ?_) (fun c96 => ?_)
        · skip
          refine lv_lload hx hb dX0_before_116 (lv_at hl 4 rfl) ?_
          refine lv_lconst (v := lN 0) hx hb dX0_before_118 (by decide) ?_
          refine n_lc_ne (tgt := 127) hx hb dX0_before_119 dX0_before_120 (by decide) (by omega) (by omega) (fun c119 => ?_) (fun c119 => ?_)
          · skip
            refine lv_iconst (v := (nI 0)) hx hb dX0_before_127 (by decide) ?_
            exact hret _ _ _ _ _ (c, t, v, S, K, R, O) _ h ⟨(bI_f (by unfold bef; (repeat' split) <;> first | (exact decide_eq_false (by omega)) | (exfalso; omega))).symm, rfl⟩ hrt rfl dX0_before_128
          · skip
            refine lv_iconst (v := (nI 1)) hx hb dX0_before_123 (by decide) ?_
            refine lv_goto (tgt := 128) hx hb dX0_before_124 (by decide) ?_
            exact hret _ _ _ _ _ (c, t, v, S, K, R, O) _ h ⟨(bI_t (by unfold bef; (repeat' split) <;> first | (exact decide_eq_true (by omega)) | (exfalso; omega))).symm, rfl⟩ hrt rfl dX0_before_128
        · skip
          refine lv_lload hx hb dX0_before_100 (lv_at hl 2 rfl) ?_
          refine lv_lload hx hb dX0_before_102 (lv_at hl 1 rfl) ?_
          refine n_lc_le (tgt := 112) hx hb dX0_before_104 dX0_before_105 (by decide) (by omega) (by omega) (fun c104 => ?_) (fun c104 => ?_)
          · skip
            refine lv_iconst (v := (nI 0)) hx hb dX0_before_112 (by decide) ?_
            refine lv_goto (tgt := 128) hx hb dX0_before_113 (by decide) ?_
            exact hret _ _ _ _ _ (c, t, v, S, K, R, O) _ h ⟨(bI_f (by unfold bef; (repeat' split) <;> first | (exact decide_eq_false (by omega)) | (exfalso; omega))).symm, rfl⟩ hrt rfl dX0_before_128
          · skip
            refine lv_iconst (v := (nI 1)) hx hb dX0_before_108 (by decide) ?_
            refine lv_goto (tgt := 128) hx hb dX0_before_109 (by decide) ?_
            exact hret _ _ _ _ _ (c, t, v, S, K, R, O) _ h ⟨(bI_t (by unfold bef; (repeat' split) <;> first | (exact decide_eq_true (by omega)) | (exfalso; omega))).symm, rfl⟩ hrt rfl dX0_before_128
      · skip
        refine lv_lload hx hb dX0_before_58 (lv_at hl 1 rfl) ?_
        refine lv_lload hx hb dX0_before_60 (lv_at hl 0 rfl) ?_
        refine n_lc_ne (tgt := 70) hx hb dX0_before_62 dX0_before_63 (by decide) (by omega) (by omega) (fun c62 => ?_) (fun c62 => ?_)
        · skip
          refine lv_iconst (v := (bI false)) hx hb dX0_before_70 (by decide) ?_
          refine lv_istore (lv' := [(14, .int (bI false)), (12, .long (lN (wo r v j))), (10, .long (lN (wo r v i))), (8, .long (lN (dv r q))), (6, .long (lN (dv r k))), (0, .ref (ad 0)), (1, .int (nI r)), (2, .int (nI i)), (3, .int (nI k)), (4, .int (nI j)), (5, .int (nI q))]) hx hb dX0_before_71 hl (by decide) rfl (fun ls hl => ?_)
          refine lv_iload hx hb dX0_before_73 (lv_at hl 0 rfl) ?_
          refine b_if_eq (tgt := 92) hx hb dX0_before_75 (by decide) (fun c75 => ?_) (fun c75 => absurd c75 (by decide))
          refine lv_lload hx hb dX0_before_92 (lv_at hl 4 rfl) ?_
          refine lv_lload hx hb dX0_before_94 (lv_at hl 3 rfl) ?_
          refine n_lc_ne (tgt := 116) hx hb dX0_before_96 dX0_before_97 (by decide) (by omega) (by omega) (fun c96 => ?_) (fun c96 => ?_)
          · skip
            refine lv_lload hx hb dX0_before_116 (lv_at hl 4 rfl) ?_
            refine lv_lconst (v := lN 0) hx hb dX0_before_118 (by decide) ?_
            refine n_lc_ne (tgt := 127) hx hb dX0_before_119 dX0_before_120 (by decide) (by omega) (by omega) (fun c119 => ?_) (fun c119 => ?_)
            · skip
              refine lv_iconst (v := (nI 0)) hx hb dX0_before_127 (by decide) ?_
              exact hret _ _ _ _ _ (c, t, v, S, K, R, O) _ h ⟨(bI_f (by unfold bef; (repeat' split) <;> first | (exact decide_eq_false (by omega)) | (exfalso; omega))).symm, rfl⟩ hrt rfl dX0_before_128
            · skip
              refine lv_iconst (v := (nI 1)) hx hb dX0_before_123 (by decide) ?_
              refine lv_goto (tgt := 128) hx hb dX0_before_124 (by decide) ?_
              exact hret _ _ _ _ _ (c, t, v, S, K, R, O) _ h ⟨(bI_t (by unfold bef; (repeat' split) <;> first | (exact decide_eq_true (by omega)) | (exfalso; omega))).symm, rfl⟩ hrt rfl dX0_before_128
          · skip
            refine lv_lload hx hb dX0_before_100 (lv_at hl 2 rfl) ?_
            refine lv_lload hx hb dX0_before_102 (lv_at hl 1 rfl) ?_
            refine n_lc_le (tgt := 112) hx hb dX0_before_104 dX0_before_105 (by decide) (by omega) (by omega) (fun c104 => ?_) (fun c104 => ?_)
            · skip
              refine lv_iconst (v := (nI 0)) hx hb dX0_before_112 (by decide) ?_
              refine lv_goto (tgt := 128) hx hb dX0_before_113 (by decide) ?_
              exact hret _ _ _ _ _ (c, t, v, S, K, R, O) _ h ⟨(bI_f (by unfold bef; (repeat' split) <;> first | (exact decide_eq_false (by omega)) | (exfalso; omega))).symm, rfl⟩ hrt rfl dX0_before_128
            · skip
              refine lv_iconst (v := (nI 1)) hx hb dX0_before_108 (by decide) ?_
              refine lv_goto (tgt := 128) hx hb dX0_before_109 (by decide) ?_
              exact hret _ _ _ _ _ (c, t, v, S, K, R, O) _ h ⟨(bI_t (by unfold bef; (repeat' split) <;> first | (exact decide_eq_true (by omega)) | (exfalso; omega))).symm, rfl⟩ hrt rfl dX0_before_128
        · skip
          refine lv_iconst (v := (bI true)) hx hb dX0_before_66 (by decide) ?_
          refine lv_goto (tgt := 71) hx hb dX0_before_67 (by decide) ?_
          refine lv_istore (lv' := [(14, .int (bI true)), (12, .long (lN (wo r v j))), (10, .long (lN (wo r v i))), (8, .long (lN (dv r q))), (6, .long (lN (dv r k))), (0, .ref (ad 0)), (1, .int (nI r)), (2, .int (nI i)), (3, .int (nI k)), (4, .int (nI j)), (5, .int (nI q))]) hx hb dX0_before_71 hl (by decide) rfl (fun ls hl => ?_)
          refine lv_iload hx hb dX0_before_73 (lv_at hl 0 rfl) ?_
          refine b_if_eq (tgt := 92) hx hb dX0_before_75 (by decide) (fun c75 => absurd c75 (by decide)) (fun c75 => ?_)
          refine lv_iload_n hx hb dX0_before_78 rfl (lv_at hl 7 rfl) ?_
          refine lv_iload hx hb dX0_before_79 (lv_at hl 9 rfl) ?_
          refine n_icmp_ge (tgt := 88) hx hb dX0_before_81 (by decide) (by omega) (by omega) (fun c81 => ?_) (fun c81 => ?_)
          · skip
            refine lv_iconst (v := (nI 0)) hx hb dX0_before_88 (by decide) ?_
            refine lv_goto (tgt := 128) hx hb dX0_before_89 (by decide) ?_
            exact hret _ _ _ _ _ (c, t, v, S, K, R, O) _ h ⟨(bI_f (by unfold bef; (repeat' split) <;> first | (exact decide_eq_false (by omega)) | (exfalso; omega))).symm, rfl⟩ hrt rfl dX0_before_128
          · skip
            refine lv_iconst (v := (nI 1)) hx hb dX0_before_84 (by decide) ?_
            refine lv_goto (tgt := 128) hx hb dX0_before_85 (by decide) ?_
            exact hret _ _ _ _ _ (c, t, v, S, K, R, O) _ h ⟨(bI_t (by unfold bef; (repeat' split) <;> first | (exact decide_eq_true (by omega)) | (exfalso; omega))).symm, rfl⟩ hrt rfl dX0_before_128
end
section
set_option maxRecDepth 100000
theorem fnS_s {r : Nat} {v s : Nat → Nat} {i : Nat} : fnS r v s (i + 1) = fnx r v s i (fnS r v s i) := rfl
theorem ltS_s {r : Nat} {v s : Nat → Nat} {i : Nat} : ltS r v s (i + 1) = ltx r v s i (ltS r v s i) := rfl
theorem fnx_0 {r : Nat} {v s : Nat → Nat} {i : Nat} {b : Option Nat} (h : v i = 0) : fnx r v s i b = b := by
  cases b <;> simp [fnx, h]
theorem ltx_0 {r : Nat} {v s : Nat → Nat} {i : Nat} {b : Option Nat} (h : s i = 0) : ltx r v s i b = b := by
  cases b <;> simp [ltx, h]
theorem fnS_some {r : Nat} {v s : Nat → Nat} {c : Nat} (h : 0 < sumTo v c) : ∃ w, fnS r v s c = some w ∧ w < c ∧ 0 < v w := by
  cases hq : fnS r v s c with
  | none =>
    obtain ⟨j, h1, h2⟩ := sumTo_pos h
    have := fnS_none hq j h1
    omega
  | some w => exact ⟨w, rfl, fnS_lt hq⟩
theorem ltS_some {r : Nat} {v s : Nat → Nat} {c : Nat} (h : 0 < sumTo s c) : ∃ w, ltS r v s c = some w ∧ w < c ∧ 0 < s w := by
  cases hq : ltS r v s c with
  | none =>
    obtain ⟨j, h1, h2⟩ := sumTo_pos h
    have := ltS_none hq j h1
    omega
  | some w => exact ⟨w, rfl, ltS_lt hq⟩
theorem ssF_le {r : Nat} {v : Nat → Nat} {n all i : Nat} : ∀ {f k : Nat}, ssF r v n all i f k ≤ k + f
  | 0, k => Nat.le_refl _
  | f + 1, k => by
    unfold ssF
    split
    · have := ssF_le (r := r) (v := v) (n := n) (all := all) (i := i) (f := f) (k := k + 1)
      omega
    · omega
theorem ssF_go {r : Nat} {v : Nat → Nat} {n all i k : Nat} (hk : k ≤ n + 1) (h : 0 < v i ∧ k ≤ n ∧ upx r all * dv r k ≤ wo r v i * unx r n) : ssF r v n all i (n + 2 - k) k = ssF r v n all i (n + 2 - (k + 1)) (k + 1) := by
  rw [show n + 2 - k = (n + 2 - (k + 1)) + 1 by omega]
  rw [ssF, if_pos h]
theorem ssF_stop {r : Nat} {v : Nat → Nat} {n all i k : Nat} (hk : k ≤ n + 1) (h : ¬ (0 < v i ∧ k ≤ n ∧ upx r all * dv r k ≤ wo r v i * unx r n)) : ssF r v n all i (n + 2 - k) k = k := by
  rw [show n + 2 - k = (n + 2 - (k + 1)) + 1 by omega]
  rw [ssF, if_neg h]
theorem s0Q_le {r : Nat} {v : Nat → Nat} {n all i : Nat} (hn : n ≤ 31) : s0Q r v n all i ≤ 33 := by
  unfold s0Q
  split
  · omega
  · have := ssF_le (r := r) (v := v) (n := n) (all := all) (i := i) (f := n + 2) (k := 0)
    omega
theorem unx_le {r n : Nat} (h : n ≤ 31) : unx r n ≤ 1000 := by
  have h2 : n * (n + 1) ≤ 31 * 32 := Nat.mul_le_mul h (by omega)
  unfold unx
  (repeat' split) <;> omega
theorem upx_le {r all : Nat} (h : all ≤ 17994) : upx r all ≤ 323784036 := by
  have h2 : all * all ≤ 17994 * 17994 := Nat.mul_le_mul h h
  unfold upx
  (repeat' split) <;> omega
theorem n_toeL {p : Program} {l : Launch} {e : Env} {R : Room} {s : State} {m : MethodId} {args : Array Value} {below : List Frame} {meth : Method} {c : Code} {H : Heap} {locs : List Loc} {cells slots : Nat} {Q : State → Prop} {pc : Nat} {ls : Array Slot} {rest : List Value} {x y : Int64} (q : x = y) (k : W p l e R s m args below meth c H locs cells slots Q (F0 m pc ls (.long y :: rest))) : W p l e R s m args below meth c H locs cells slots Q (F0 m pc ls (.long x :: rest)) := by
  rw [q]
  exact k
set_option maxHeartbeats 4000000 in
theorem mX_firstNext (l : Launch) (D : va_G) (ad : Nat → Nat) (cI cB : ClassId) (c t : Nat) (v : Nat → Nat) (S K R O : Nat → Int32) (r : Nat) (sf : Nat → Nat) (hr7 : r < 7) (hc : c ≤ 6) (hv : ∀ j, j < c → v j ≤ 2999) (hS : ∀ j, j < c → S j = nI (sf j)) (hs : ∀ j, j < c → sf j ≤ 999) : Mi l D (tyX cI cB) (WX ad cI cB) yX0_firstNext cX0_firstNext 4 (some .int) 2 61 (ad 0) [.int (nI r)] (c, t, v, S, K, R, O) (fun z u => z = oI (fnS r v sf c) ∧ u = (c, t, v, S, K, R, O)) := by
  refine Mi.of (by decide) (Nat.le_of_ble_eq_true rfl) ?_
  intro p e s m args below meth cd A ls Q G hrt h hl hret
  have G : GX D A cI cB p s m args cd cX0_firstNext 4 := G
  have h : HX D A ad cI cB s.heap c t v S K R O s.heap [] := h
  have hl : lv_has ls 4 [(0, .ref (ad 0)), (1, .int (nI r))] := hl
  have hx := G.1.1
  have hb := G.1.2.1
  refine lv_iconst (v := (oI none)) hx hb dX0_firstNext_0 (by decide) ?_
  refine lv_istore_n (lv' := [(2, .int (oI none)), (0, .ref (ad 0)), (1, .int (nI r))]) hx hb dX0_firstNext_1 rfl hl (by decide) rfl (fun ls hl => ?_)
  refine lv_iconst (v := (nI 0)) hx hb dX0_firstNext_2 (by decide) ?_
  refine lv_istore_n (lv' := [(3, .int (nI 0)), (2, .int (oI none)), (0, .ref (ad 0)), (1, .int (nI r))]) hx hb dX0_firstNext_3 rfl hl (by decide) rfl (fun ls hl => ?_)
  have L4 : ∀ (n4 : Nat) (i : Nat) (b : Option Nat), c - i < n4 → (i ≤ c) → (b = fnS r v sf i) → ∀ (H : Heap) (locs : List Loc), HX D A ad cI cB s.heap c t v S K R O H locs → ∀ (ls : Array Slot), lv_has ls 4 [(0, .ref (ad 0)), (1, .int (nI r)), (2, .int (oI b)), (3, .int (nI i))] → W p l e (rmm 2 61) s m args below meth cd H locs 0 0 Q (F0 m 4 ls []) := by
    intro n4
    induction n4 with
    | zero =>
      intro i b hm
      exact absurd hm (Nat.not_lt_zero _)
    | succ n4 ih4 =>
      intro i b hm4 hi hbo H locs h ls hl
      refine lv_iload_n hx hb dX0_firstNext_4 rfl (lv_at hl 3 rfl) ?_
      refine lv_aload_n hx hb dX0_firstNext_5 rfl (lv_at hl 0 rfl) ?_
      refine x_getC G h dX0_firstNext_6 ?_
      refine n_icmp_ge (tgt := 55) hx hb dX0_firstNext_9 (by decide) (by omega) (by omega) (fun c9 => ?_) (fun c9 => ?_)
      · skip
        refine lv_iload_n hx hb dX0_firstNext_55 rfl (lv_at hl 2 rfl) ?_
        exact hret _ _ _ _ _ (c, t, v, S, K, R, O) _ h ⟨by rw [hbo, show i = c by omega], rfl⟩ hrt rfl dX0_firstNext_56
      · skip
        refine lv_aload_n hx hb dX0_firstNext_12 rfl (lv_at hl 0 rfl) ?_
        refine x_getV G h dX0_firstNext_13 ?_
        refine lv_iload_n hx hb dX0_firstNext_16 rfl (lv_at hl 3 rfl) ?_
        refine x_ldV G h (by omega) dX0_firstNext_17 ?_
        refine n_if_le (tgt := 49) hx hb dX0_firstNext_18 (by decide) (by have := hv _ (show i < c by omega); omega) (fun c18 => ?_) (fun c18 => ?_)
        · skip
          refine lv_iinc (v := nI (i + 1)) (lv' := [(3, .int (nI (i + 1))), (0, .ref (ad 0)), (1, .int (nI r)), (2, .int (oI b))]) hx hb dX0_firstNext_49 hl (k := 3) rfl (inc1 _) (by decide) rfl (fun ls hl => ?_)
          refine lv_goto (tgt := 4) hx hb dX0_firstNext_52 (by decide) ?_
          exact ih4 (i + 1) b (by omega) (by omega) (by rw [fnS_s, ← hbo, fnx_0 c18]) _ _ h _ (lv_sub hl [1, 2, 3, 0] rfl)
        · skip
          refine lv_iload_n hx hb dX0_firstNext_21 rfl (lv_at hl 2 rfl) ?_
          refine o_if_lt (tgt := 47) hx hb dX0_firstNext_22 (by decide) (fun j hj => by have := fnS_lt (hbo.symm.trans hj); omega) (fun c22 => ?_) (fun j22 c22 => ?_)
          · skip
            subst c22
            have hl : lv_has ls 4 [(0, .ref (ad 0)), (1, .int (nI r)), (2, .int (oI none)), (3, .int (nI i))] := hl
            refine lv_iload_n hx hb dX0_firstNext_47 rfl (lv_at hl 3 rfl) ?_
            refine lv_istore_n (lv' := [(2, .int (nI i)), (0, .ref (ad 0)), (1, .int (nI r)), (3, .int (nI i))]) hx hb dX0_firstNext_48 rfl hl (by decide) rfl (fun ls hl => ?_)
            refine lv_iinc (v := nI (i + 1)) (lv' := [(3, .int (nI (i + 1))), (2, .int (nI i)), (0, .ref (ad 0)), (1, .int (nI r))]) hx hb dX0_firstNext_49 hl (k := 3) rfl (inc1 _) (by decide) rfl (fun ls hl => ?_)
            refine lv_goto (tgt := 4) hx hb dX0_firstNext_52 (by decide) ?_
            exact ih4 (i + 1) (some i) (by omega) (by omega) (by rw [fnS_s, ← hbo]; simp [fnx, c18]) _ _ h _ (lv_sub hl [2, 3, 1, 0] rfl)
          · skip
            subst c22
            have hl : lv_has ls 4 [(0, .ref (ad 0)), (1, .int (nI r)), (2, .int (nI j22)), (3, .int (nI i))] := hl
            have hj22 := fnS_lt hbo.symm
            refine lv_aload_n hx hb dX0_firstNext_25 rfl (lv_at hl 0 rfl) ?_
            refine lv_iload_n hx hb dX0_firstNext_26 rfl (lv_at hl 1 rfl) ?_
            refine lv_iload_n hx hb dX0_firstNext_27 rfl (lv_at hl 3 rfl) ?_
            refine lv_aload_n hx hb dX0_firstNext_28 rfl (lv_at hl 0 rfl) ?_
            refine x_getS G h dX0_firstNext_29 ?_
            refine lv_iload_n hx hb dX0_firstNext_32 rfl (lv_at hl 3 rfl) ?_
            refine x_ldS (x := (nI (sf i))) G h (by omega) (hS _ (by omega)) dX0_firstNext_33 ?_
            refine lv_iload_n hx hb dX0_firstNext_34 rfl (lv_at hl 2 rfl) ?_
            refine lv_aload_n hx hb dX0_firstNext_35 rfl (lv_at hl 0 rfl) ?_
            refine x_getS G h dX0_firstNext_36 ?_
            refine lv_iload_n hx hb dX0_firstNext_39 rfl (lv_at hl 2 rfl) ?_
            refine x_ldS (x := (nI (sf j22))) G h (by omega) (hS _ (by omega)) dX0_firstNext_40 ?_
            refine x_callr (x := (bI (bef r v i (sf i) j22 (sf j22)))) G h (mX_before l D ad cI cB c t v S K R O r i (sf i) j22 (sf j22) hr7 (by omega) (by omega) (hv _ (by omega)) (hv _ (by omega)) (by have := hs _ (show i < c by omega); omega) (by have := hs _ (show j22 < c by omega); omega)) kX_before rfl ⟨Nat.le_of_ble_eq_true rfl, Nat.le_of_ble_eq_true rfl, Nat.le_refl _, Nat.le_refl _⟩ hl.1 rfl (Nat.le_of_ble_eq_true rfl) dX0_firstNext_41 (fun H locs h => ?_)
            refine b_if_eq (tgt := 49) hx hb dX0_firstNext_44 (by decide) (fun c44 => ?_) (fun c44 => ?_)
            · skip
              refine lv_iinc (v := nI (i + 1)) (lv' := [(3, .int (nI (i + 1))), (0, .ref (ad 0)), (1, .int (nI r)), (2, .int (nI j22))]) hx hb dX0_firstNext_49 hl (k := 3) rfl (inc1 _) (by decide) rfl (fun ls hl => ?_)
              refine lv_goto (tgt := 4) hx hb dX0_firstNext_52 (by decide) ?_
              exact ih4 (i + 1) (some j22) (by omega) (by omega) (by rw [fnS_s, ← hbo]; simp [fnx, c44]) _ _ h _ (lv_sub hl [1, 2, 3, 0] rfl)
            · skip
              refine lv_iload_n hx hb dX0_firstNext_47 rfl (lv_at hl 3 rfl) ?_
              refine lv_istore_n (lv' := [(2, .int (nI i)), (0, .ref (ad 0)), (1, .int (nI r)), (3, .int (nI i))]) hx hb dX0_firstNext_48 rfl hl (by decide) rfl (fun ls hl => ?_)
              refine lv_iinc (v := nI (i + 1)) (lv' := [(3, .int (nI (i + 1))), (2, .int (nI i)), (0, .ref (ad 0)), (1, .int (nI r))]) hx hb dX0_firstNext_49 hl (k := 3) rfl (inc1 _) (by decide) rfl (fun ls hl => ?_)
              refine lv_goto (tgt := 4) hx hb dX0_firstNext_52 (by decide) ?_
              exact ih4 (i + 1) (some i) (by omega) (by omega) (by rw [fnS_s, ← hbo]; simp [fnx, c18, c44]) _ _ h _ (lv_sub hl [2, 3, 1, 0] rfl)
  exact L4 _ 0 none (Nat.lt_succ_self _) (Nat.zero_le _) rfl _ _ h _ (lv_sub hl [2, 3, 1, 0] rfl)
set_option maxHeartbeats 4000000 in
theorem mX_lastTaken (l : Launch) (D : va_G) (ad : Nat → Nat) (cI cB : ClassId) (c t : Nat) (v : Nat → Nat) (S K R O : Nat → Int32) (r : Nat) (sf : Nat → Nat) (hr7 : r < 7) (hc : c ≤ 6) (hv : ∀ j, j < c → v j ≤ 2999) (hS : ∀ j, j < c → S j = nI (sf j)) (hs : ∀ j, j < c → sf j ≤ 999) : Mi l D (tyX cI cB) (WX ad cI cB) yX0_lastTaken cX0_lastTaken 4 (some .int) 2 61 (ad 0) [.int (nI r)] (c, t, v, S, K, R, O) (fun z u => z = oI (ltS r v sf c) ∧ u = (c, t, v, S, K, R, O)) := by
  refine Mi.of (by decide) (Nat.le_of_ble_eq_true rfl) ?_
  intro p e s m args below meth cd A ls Q G hrt h hl hret
  have G : GX D A cI cB p s m args cd cX0_lastTaken 4 := G
  have h : HX D A ad cI cB s.heap c t v S K R O s.heap [] := h
  have hl : lv_has ls 4 [(0, .ref (ad 0)), (1, .int (nI r))] := hl
  have hx := G.1.1
  have hb := G.1.2.1
  refine lv_iconst (v := (oI none)) hx hb dX0_lastTaken_0 (by decide) ?_
  refine lv_istore_n (lv' := [(2, .int (oI none)), (0, .ref (ad 0)), (1, .int (nI r))]) hx hb dX0_lastTaken_1 rfl hl (by decide) rfl (fun ls hl => ?_)
  refine lv_iconst (v := (nI 0)) hx hb dX0_lastTaken_2 (by decide) ?_
  refine lv_istore_n (lv' := [(3, .int (nI 0)), (2, .int (oI none)), (0, .ref (ad 0)), (1, .int (nI r))]) hx hb dX0_lastTaken_3 rfl hl (by decide) rfl (fun ls hl => ?_)
  have L4 : ∀ (n4 : Nat) (i : Nat) (b : Option Nat), c - i < n4 → (i ≤ c) → (b = ltS r v sf i) → ∀ (H : Heap) (locs : List Loc), HX D A ad cI cB s.heap c t v S K R O H locs → ∀ (ls : Array Slot), lv_has ls 4 [(0, .ref (ad 0)), (1, .int (nI r)), (2, .int (oI b)), (3, .int (nI i))] → W p l e (rmm 2 61) s m args below meth cd H locs 0 0 Q (F0 m 4 ls []) := by
    intro n4
    induction n4 with
    | zero =>
      intro i b hm
      exact absurd hm (Nat.not_lt_zero _)
    | succ n4 ih4 =>
      intro i b hm4 hi hbo H locs h ls hl
      refine lv_iload_n hx hb dX0_lastTaken_4 rfl (lv_at hl 3 rfl) ?_
      refine lv_aload_n hx hb dX0_lastTaken_5 rfl (lv_at hl 0 rfl) ?_
      refine x_getC G h dX0_lastTaken_6 ?_
      refine n_icmp_ge (tgt := 59) hx hb dX0_lastTaken_9 (by decide) (by omega) (by omega) (fun c9 => ?_) (fun c9 => ?_)
      · skip
        refine lv_iload_n hx hb dX0_lastTaken_59 rfl (lv_at hl 2 rfl) ?_
        exact hret _ _ _ _ _ (c, t, v, S, K, R, O) _ h ⟨by rw [hbo, show i = c by omega], rfl⟩ hrt rfl dX0_lastTaken_60
      · skip
        refine lv_aload_n hx hb dX0_lastTaken_12 rfl (lv_at hl 0 rfl) ?_
        refine x_getS G h dX0_lastTaken_13 ?_
        refine lv_iload_n hx hb dX0_lastTaken_16 rfl (lv_at hl 3 rfl) ?_
        refine x_ldS (x := (nI (sf i))) G h (by omega) (hS _ (by omega)) dX0_lastTaken_17 ?_
        refine n_if_le (tgt := 53) hx hb dX0_lastTaken_18 (by decide) (by have := hs _ (show i < c by omega); omega) (fun c18 => ?_) (fun c18 => ?_)
        · skip
          refine lv_iinc (v := nI (i + 1)) (lv' := [(3, .int (nI (i + 1))), (0, .ref (ad 0)), (1, .int (nI r)), (2, .int (oI b))]) hx hb dX0_lastTaken_53 hl (k := 3) rfl (inc1 _) (by decide) rfl (fun ls hl => ?_)
          refine lv_goto (tgt := 4) hx hb dX0_lastTaken_56 (by decide) ?_
          exact ih4 (i + 1) b (by omega) (by omega) (by rw [ltS_s, ← hbo, ltx_0 c18]) _ _ h _ (lv_sub hl [1, 2, 3, 0] rfl)
        · skip
          refine lv_iload_n hx hb dX0_lastTaken_21 rfl (lv_at hl 2 rfl) ?_
          refine o_if_lt (tgt := 51) hx hb dX0_lastTaken_22 (by decide) (fun j hj => by have := ltS_lt (hbo.symm.trans hj); omega) (fun c22 => ?_) (fun j22 c22 => ?_)
          · skip
            subst c22
            have hl : lv_has ls 4 [(0, .ref (ad 0)), (1, .int (nI r)), (2, .int (oI none)), (3, .int (nI i))] := hl
            refine lv_iload_n hx hb dX0_lastTaken_51 rfl (lv_at hl 3 rfl) ?_
            refine lv_istore_n (lv' := [(2, .int (nI i)), (0, .ref (ad 0)), (1, .int (nI r)), (3, .int (nI i))]) hx hb dX0_lastTaken_52 rfl hl (by decide) rfl (fun ls hl => ?_)
            refine lv_iinc (v := nI (i + 1)) (lv' := [(3, .int (nI (i + 1))), (2, .int (nI i)), (0, .ref (ad 0)), (1, .int (nI r))]) hx hb dX0_lastTaken_53 hl (k := 3) rfl (inc1 _) (by decide) rfl (fun ls hl => ?_)
            refine lv_goto (tgt := 4) hx hb dX0_lastTaken_56 (by decide) ?_
            exact ih4 (i + 1) (some i) (by omega) (by omega) (by rw [ltS_s, ← hbo]; simp [ltx, c18]) _ _ h _ (lv_sub hl [2, 3, 1, 0] rfl)
          · skip
            subst c22
            have hl : lv_has ls 4 [(0, .ref (ad 0)), (1, .int (nI r)), (2, .int (nI j22)), (3, .int (nI i))] := hl
            have hj22 := ltS_lt hbo.symm
            refine lv_aload_n hx hb dX0_lastTaken_25 rfl (lv_at hl 0 rfl) ?_
            refine lv_iload_n hx hb dX0_lastTaken_26 rfl (lv_at hl 1 rfl) ?_
            refine lv_iload_n hx hb dX0_lastTaken_27 rfl (lv_at hl 2 rfl) ?_
            refine lv_aload_n hx hb dX0_lastTaken_28 rfl (lv_at hl 0 rfl) ?_
            refine x_getS G h dX0_lastTaken_29 ?_
            refine lv_iload_n hx hb dX0_lastTaken_32 rfl (lv_at hl 2 rfl) ?_
            refine x_ldS (x := (nI (sf j22))) G h (by omega) (hS _ (by omega)) dX0_lastTaken_33 ?_
            refine lv_iconst (v := (nI 1)) hx hb dX0_lastTaken_34 (by decide) ?_
            refine n_isub hx hb dX0_lastTaken_35 (by omega) ?_
            refine lv_iload_n hx hb dX0_lastTaken_36 rfl (lv_at hl 3 rfl) ?_
            refine lv_aload_n hx hb dX0_lastTaken_37 rfl (lv_at hl 0 rfl) ?_
            refine x_getS G h dX0_lastTaken_38 ?_
            refine lv_iload_n hx hb dX0_lastTaken_41 rfl (lv_at hl 3 rfl) ?_
            refine x_ldS (x := (nI (sf i))) G h (by omega) (hS _ (by omega)) dX0_lastTaken_42 ?_
            refine lv_iconst (v := (nI 1)) hx hb dX0_lastTaken_43 (by decide) ?_
            refine n_isub hx hb dX0_lastTaken_44 (by omega) ?_
            refine x_callr (x := (bI (bef r v j22 ((sf j22) - 1) i ((sf i) - 1)))) G h (mX_before l D ad cI cB c t v S K R O r j22 ((sf j22) - 1) i ((sf i) - 1) hr7 (by omega) (by omega) (hv _ (by omega)) (hv _ (by omega)) (by have := hs _ (show j22 < c by omega); omega) (by have := hs _ (show i < c by omega); omega)) kX_before rfl ⟨Nat.le_of_ble_eq_true rfl, Nat.le_of_ble_eq_true rfl, Nat.le_refl _, Nat.le_refl _⟩ hl.1 rfl (Nat.le_of_ble_eq_true rfl) dX0_lastTaken_45 (fun H locs h => ?_)
            refine b_if_eq (tgt := 53) hx hb dX0_lastTaken_48 (by decide) (fun c48 => ?_) (fun c48 => ?_)
            · skip
              refine lv_iinc (v := nI (i + 1)) (lv' := [(3, .int (nI (i + 1))), (0, .ref (ad 0)), (1, .int (nI r)), (2, .int (nI j22))]) hx hb dX0_lastTaken_53 hl (k := 3) rfl (inc1 _) (by decide) rfl (fun ls hl => ?_)
              refine lv_goto (tgt := 4) hx hb dX0_lastTaken_56 (by decide) ?_
              exact ih4 (i + 1) (some j22) (by omega) (by omega) (by rw [ltS_s, ← hbo]; simp [ltx, c48]) _ _ h _ (lv_sub hl [1, 2, 3, 0] rfl)
            · skip
              refine lv_iload_n hx hb dX0_lastTaken_51 rfl (lv_at hl 3 rfl) ?_
              refine lv_istore_n (lv' := [(2, .int (nI i)), (0, .ref (ad 0)), (1, .int (nI r)), (3, .int (nI i))]) hx hb dX0_lastTaken_52 rfl hl (by decide) rfl (fun ls hl => ?_)
              refine lv_iinc (v := nI (i + 1)) (lv' := [(3, .int (nI (i + 1))), (2, .int (nI i)), (0, .ref (ad 0)), (1, .int (nI r))]) hx hb dX0_lastTaken_53 hl (k := 3) rfl (inc1 _) (by decide) rfl (fun ls hl => ?_)
              refine lv_goto (tgt := 4) hx hb dX0_lastTaken_56 (by decide) ?_
              exact ih4 (i + 1) (some i) (by omega) (by omega) (by rw [ltS_s, ← hbo]; simp [ltx, c18, c48]) _ _ h _ (lv_sub hl [2, 3, 1, 0] rfl)
  exact L4 _ 0 none (Nat.lt_succ_self _) (Nat.zero_le _) rfl _ _ h _ (lv_sub hl [2, 3, 1, 0] rfl)
set_option maxHeartbeats 4000000 in
theorem mX_startShare (l : Launch) (D : va_G) (ad : Nat → Nat) (cI cB : ClassId) (c t : Nat) (v : Nat → Nat) (S K R O : Nat → Int32) (r i n all : Nat) (hr7 : r < 7) (hi : i < 6) (hvi : v i ≤ 2999) (hn : n ≤ 31) (hall : all ≤ 17994) : Mi l D (tyX cI cB) (WX ad cI cB) yX0_startShare cX0_startShare 10 (some .int) 1 24 (ad 0) [.int (nI r), .int (nI i), .int (nI n), .int (nI all)] (c, t, v, S, K, R, O) (fun z u => z = nI (ssF r v n all i (n + 2) 0) ∧ u = (c, t, v, S, K, R, O)) := by
  refine Mi.of (by decide) (Nat.le_of_ble_eq_true rfl) ?_
  intro p e s m args below meth cd A ls Q G hrt h hl hret
  have G : GX D A cI cB p s m args cd cX0_startShare 10 := G
  have h : HX D A ad cI cB s.heap c t v S K R O s.heap [] := h
  have hl : lv_has ls 10 [(0, .ref (ad 0)), (1, .int (nI r)), (2, .int (nI i)), (3, .int (nI n)), (4, .int (nI all))] := hl
  have hx := G.1.1
  have hb := G.1.2.1
  have b1 := wo_le (r := r) hvi
  have b2 := unx_le (r := r) hn
  have b3 := upx_le (r := r) hall
  have b4 := Nat.mul_le_mul b1 b2
  have J82 :  ∀ (H : Heap) (locs : List Loc), HX D A ad cI cB s.heap c t v S K R O H locs → ∀ (ls : Array Slot), lv_has ls 10 [(0, .ref (ad 0)), (1, .int (nI r)), (2, .int (nI i)), (3, .int (nI n)), (4, .int (nI all)), (5, .long (lN (upx r all)))] → W p l e (rmm 1 24) s m args below meth cd H locs 0 0 Q (F0 m 82 ls [.long (lN (unx r n))]) := by
    intro   H locs h ls hl
    refine lv_lstore (lv' := [(7, .long (lN (unx r n))), (0, .ref (ad 0)), (1, .int (nI r)), (2, .int (nI i)), (3, .int (nI n)), (4, .int (nI all)), (5, .long (lN (upx r all)))]) hx hb dX0_startShare_82 hl (by decide) rfl (fun ls hl => ?_)
    refine lv_iconst (v := (nI 0)) hx hb dX0_startShare_84 (by decide) ?_
    refine lv_istore (lv' := [(9, .int (nI 0)), (7, .long (lN (unx r n))), (0, .ref (ad 0)), (1, .int (nI r)), (2, .int (nI i)), (3, .int (nI n)), (4, .int (nI all)), (5, .long (lN (upx r all)))]) hx hb dX0_startShare_85 hl (by decide) rfl (fun ls hl => ?_)
    have L87 : ∀ (n87 : Nat) (k : Nat), n + 2 - k < n87 → (k ≤ n + 1) → (ssF r v n all i (n + 2 - k) k = ssF r v n all i (n + 2) 0) → ∀ (H : Heap) (locs : List Loc), HX D A ad cI cB s.heap c t v S K R O H locs → ∀ (ls : Array Slot), lv_has ls 10 [(0, .ref (ad 0)), (1, .int (nI r)), (2, .int (nI i)), (3, .int (nI n)), (4, .int (nI all)), (5, .long (lN (upx r all))), (7, .long (lN (unx r n))), (9, .int (nI k))] → W p l e (rmm 1 24) s m args below meth cd H locs 0 0 Q (F0 m 87 ls []) := by
      intro n87
      induction n87 with
      | zero =>
        intro k hm
        exact absurd hm (Nat.not_lt_zero _)
      | succ n87 ih87 =>
        intro k hm87 hk hss H locs h ls hl
        have b5 := dv_le (r := r) (show k ≤ 1000 by omega)
        have b6 := Nat.mul_le_mul b3 b5
        refine lv_aload_n hx hb dX0_startShare_87 rfl (lv_at hl 0 rfl) ?_
        refine x_getV G h dX0_startShare_88 ?_
        refine lv_iload_n hx hb dX0_startShare_91 rfl (lv_at hl 2 rfl) ?_
        refine x_ldV G h (by omega) dX0_startShare_92 ?_
        refine n_if_le (tgt := 132) hx hb dX0_startShare_93 (by decide) (by omega) (fun c93 => ?_) (fun c93 => ?_)
        · skip
          refine lv_iload hx hb dX0_startShare_132 (lv_at hl 7 rfl) ?_
          exact hret _ _ _ _ _ (c, t, v, S, K, R, O) _ h ⟨by rw [← hss, ssF_stop hk (by omega)], rfl⟩ hrt rfl dX0_startShare_134
        · skip
          refine lv_iload hx hb dX0_startShare_96 (lv_at hl 7 rfl) ?_
          refine lv_iload_n hx hb dX0_startShare_98 rfl (lv_at hl 3 rfl) ?_
          refine n_icmp_gt (tgt := 132) hx hb dX0_startShare_99 (by decide) (by omega) (by omega) (fun c99 => ?_) (fun c99 => ?_)
          · skip
            refine lv_iload hx hb dX0_startShare_132 (lv_at hl 7 rfl) ?_
            exact hret _ _ _ _ _ (c, t, v, S, K, R, O) _ h ⟨by rw [← hss, ssF_stop hk (by omega)], rfl⟩ hrt rfl dX0_startShare_134
          · skip
            refine lv_aload_n hx hb dX0_startShare_102 rfl (lv_at hl 0 rfl) ?_
            refine lv_iload_n hx hb dX0_startShare_103 rfl (lv_at hl 1 rfl) ?_
            refine lv_iload_n hx hb dX0_startShare_104 rfl (lv_at hl 2 rfl) ?_
            refine x_callrl (x := (lN (wo r v i))) G h (mX_worth l D ad cI cB c t v S K R O r i (by omega) (by omega) hvi) kX_worth rfl ⟨Nat.le_of_ble_eq_true rfl, Nat.le_of_ble_eq_true rfl, Nat.le_refl _, Nat.le_refl _⟩ hl.1 rfl (Nat.le_of_ble_eq_true rfl) dX0_startShare_105 (fun H locs h => ?_)
            refine lv_lload hx hb dX0_startShare_108 (lv_at hl 6 rfl) ?_
            refine n_lmul hx hb dX0_startShare_110 ?_
            refine lv_lload hx hb dX0_startShare_111 (lv_at hl 5 rfl) ?_
            refine lv_aload_n hx hb dX0_startShare_113 rfl (lv_at hl 0 rfl) ?_
            refine lv_iload_n hx hb dX0_startShare_114 rfl (lv_at hl 1 rfl) ?_
            refine lv_iload hx hb dX0_startShare_115 (lv_at hl 7 rfl) ?_
            refine x_callr (x := (nI (dv r k))) G h (mX_divisor l D ad cI cB c t v S K R O r k (by omega) (by omega)) kX_divisor rfl ⟨Nat.le_of_ble_eq_true rfl, Nat.le_of_ble_eq_true rfl, Nat.le_refl _, Nat.le_refl _⟩ hl.1 rfl (Nat.le_of_ble_eq_true rfl) dX0_startShare_117 (fun H locs h => ?_)
            refine n_i2l hx hb dX0_startShare_120 (by omega) ?_
            refine n_lmul hx hb dX0_startShare_121 ?_
            refine n_lc_lt (tgt := 132) hx hb dX0_startShare_122 dX0_startShare_123 (by decide) (by omega) (by omega) (fun c122 => ?_) (fun c122 => ?_)
            · skip
              refine lv_iload hx hb dX0_startShare_132 (lv_at hl 7 rfl) ?_
              exact hret _ _ _ _ _ (c, t, v, S, K, R, O) _ h ⟨by rw [← hss, ssF_stop hk (by omega)], rfl⟩ hrt rfl dX0_startShare_134
            · skip
              refine lv_iinc (v := nI (k + 1)) (lv' := [(9, .int (nI (k + 1))), (0, .ref (ad 0)), (1, .int (nI r)), (2, .int (nI i)), (3, .int (nI n)), (4, .int (nI all)), (5, .long (lN (upx r all))), (7, .long (lN (unx r n)))]) hx hb dX0_startShare_126 hl (k := 7) rfl (inc1 _) (by decide) rfl (fun ls hl => ?_)
              refine lv_goto (tgt := 87) hx hb dX0_startShare_129 (by decide) ?_
              exact ih87 (k + 1) (by omega) (by omega) (by rw [← hss, ssF_go hk ⟨c93, c99, c122⟩]) _ _ h _ (lv_sub hl [1, 2, 3, 4, 5, 6, 7, 0] rfl)
    exact L87 _ 0 (Nat.lt_succ_self _) (Nat.zero_le _) rfl _ _ h _ (lv_sub hl [2, 3, 4, 5, 6, 7, 1, 0] rfl)
  have J18 :  ∀ (H : Heap) (locs : List Loc), HX D A ad cI cB s.heap c t v S K R O H locs → ∀ (ls : Array Slot), lv_has ls 10 [(0, .ref (ad 0)), (1, .int (nI r)), (2, .int (nI i)), (3, .int (nI n)), (4, .int (nI all))] → W p l e (rmm 1 24) s m args below meth cd H locs 0 0 Q (F0 m 18 ls [.long (lN (upx r all))]) := by
    intro   H locs h ls hl
    refine lv_lstore (lv' := [(5, .long (lN (upx r all))), (0, .ref (ad 0)), (1, .int (nI r)), (2, .int (nI i)), (3, .int (nI n)), (4, .int (nI all))]) hx hb dX0_startShare_18 hl (by decide) rfl (fun ls hl => ?_)
    refine lv_iload_n hx hb dX0_startShare_20 rfl (lv_at hl 2 rfl) ?_
    refine n_if_ne (tgt := 31) hx hb dX0_startShare_21 (by decide) (by omega) (fun c21 => ?_) (fun c21 => ?_)
    · skip
      refine lv_iload_n hx hb dX0_startShare_31 rfl (lv_at hl 2 rfl) ?_
      refine lv_iconst (v := (nI 1)) hx hb dX0_startShare_32 (by decide) ?_
      refine n_icmp_ne (tgt := 47) hx hb dX0_startShare_33 (by decide) (by omega) (by omega) (fun c33 => ?_) (fun c33 => ?_)
      · skip
        refine lv_iload_n hx hb dX0_startShare_47 rfl (lv_at hl 2 rfl) ?_
        refine lv_iconst (v := (nI 2)) hx hb dX0_startShare_48 (by decide) ?_
        refine n_icmp_ne (tgt := 65) hx hb dX0_startShare_49 (by decide) (by omega) (by omega) (fun c49 => ?_) (fun c49 => ?_)
        · skip
          refine lv_iload_n hx hb dX0_startShare_65 rfl (lv_at hl 2 rfl) ?_
          refine lv_iconst (v := (nI 3)) hx hb dX0_startShare_66 (by decide) ?_
          refine n_icmp_ne (tgt := 80) hx hb dX0_startShare_67 (by decide) (by omega) (by omega) (fun c67 => ?_) (fun c67 => ?_)
          · skip
            refine lv_iload_n hx hb dX0_startShare_80 rfl (lv_at hl 4 rfl) ?_
            refine n_i2l hx hb dX0_startShare_81 (by omega) ?_
            refine n_toeL (show lN n = lN (unx r n) from congrArg lN (by unfold unx; (repeat' split) <;> omega)) ?_
            exact J82   _ _ h _ (lv_sub hl [1, 2, 3, 4, 5, 0] rfl)
          · skip
            refine lv_iload_n hx hb dX0_startShare_70 rfl (lv_at hl 4 rfl) ?_
            refine n_i2l hx hb dX0_startShare_71 (by omega) ?_
            refine lv_iload_n hx hb dX0_startShare_72 rfl (lv_at hl 4 rfl) ?_
            refine lv_iconst (v := (nI 1)) hx hb dX0_startShare_73 (by decide) ?_
            refine n_iadd hx hb dX0_startShare_74 ?_
            refine n_i2l hx hb dX0_startShare_75 (by omega) ?_
            refine n_lmul hx hb dX0_startShare_76 ?_
            refine lv_goto (tgt := 82) hx hb dX0_startShare_77 (by decide) ?_
            refine n_toeL (show lN (n * (n + 1)) = lN (unx r n) from congrArg lN (by unfold unx; (repeat' split) <;> omega)) ?_
            exact J82   _ _ h _ (lv_sub hl [1, 2, 3, 4, 5, 0] rfl)
        · skip
          refine lv_ldc2 (v := lN 10) hx hb G.1.2.2.2.1 (G.1.2.2.2.2 _ q123) dX0_startShare_52 ?_
          refine lv_iload_n hx hb dX0_startShare_55 rfl (lv_at hl 4 rfl) ?_
          refine n_i2l hx hb dX0_startShare_56 (by omega) ?_
          refine n_lmul hx hb dX0_startShare_57 ?_
          refine lv_ldc2 (v := lN 5) hx hb G.1.2.2.2.1 (G.1.2.2.2.2 _ q124) dX0_startShare_58 ?_
          refine n_ladd hx hb dX0_startShare_61 ?_
          refine lv_goto (tgt := 82) hx hb dX0_startShare_62 (by decide) ?_
          refine n_toeL (show lN ((10 * n) + 5) = lN (unx r n) from congrArg lN (by unfold unx; (repeat' split) <;> omega)) ?_
          exact J82   _ _ h _ (lv_sub hl [1, 2, 3, 4, 5, 0] rfl)
      · skip
        refine lv_ldc2 (v := lN 2) hx hb G.1.2.2.2.1 (G.1.2.2.2.2 _ q122) dX0_startShare_36 ?_
        refine lv_iload_n hx hb dX0_startShare_39 rfl (lv_at hl 4 rfl) ?_
        refine n_i2l hx hb dX0_startShare_40 (by omega) ?_
        refine n_lmul hx hb dX0_startShare_41 ?_
        refine lv_lconst (v := lN 1) hx hb dX0_startShare_42 (by decide) ?_
        refine n_ladd hx hb dX0_startShare_43 ?_
        refine lv_goto (tgt := 82) hx hb dX0_startShare_44 (by decide) ?_
        refine n_toeL (show lN ((2 * n) + 1) = lN (unx r n) from congrArg lN (by unfold unx; (repeat' split) <;> omega)) ?_
        exact J82   _ _ h _ (lv_sub hl [1, 2, 3, 4, 5, 0] rfl)
    · skip
      refine lv_iload_n hx hb dX0_startShare_24 rfl (lv_at hl 4 rfl) ?_
      refine lv_iconst (v := (nI 1)) hx hb dX0_startShare_25 (by decide) ?_
      refine n_iadd hx hb dX0_startShare_26 ?_
      refine n_i2l hx hb dX0_startShare_27 (by omega) ?_
      refine lv_goto (tgt := 82) hx hb dX0_startShare_28 (by decide) ?_
      refine n_toeL (show lN (n + 1) = lN (unx r n) from congrArg lN (by unfold unx; (repeat' split) <;> omega)) ?_
      exact J82   _ _ h _ (lv_sub hl [1, 2, 3, 4, 5, 0] rfl)
  refine lv_iload_n hx hb dX0_startShare_0 rfl (lv_at hl 1 rfl) ?_
  refine lv_iconst (v := (nI 3)) hx hb dX0_startShare_1 (by decide) ?_
  refine n_icmp_ne (tgt := 15) hx hb dX0_startShare_2 (by decide) (by omega) (by omega) (fun c2 => ?_) (fun c2 => ?_)
  · skip
    refine lv_iload hx hb dX0_startShare_15 (lv_at hl 4 rfl) ?_
    refine n_i2l hx hb dX0_startShare_17 (by omega) ?_
    refine n_toeL (show lN all = lN (upx r all) from congrArg lN (by unfold upx; (repeat' split) <;> omega)) ?_
    exact J18   _ _ h _ (lv_sub hl [0, 1, 2, 3, 4] rfl)
  · skip
    refine lv_iload hx hb dX0_startShare_5 (lv_at hl 4 rfl) ?_
    refine n_i2l hx hb dX0_startShare_7 (by omega) ?_
    refine lv_iload hx hb dX0_startShare_8 (lv_at hl 4 rfl) ?_
    refine n_i2l hx hb dX0_startShare_10 (by omega) ?_
    refine n_lmul hx hb dX0_startShare_11 ?_
    refine lv_goto (tgt := 18) hx hb dX0_startShare_12 (by decide) ?_
    refine n_toeL (show lN (all * all) = lN (upx r all) from congrArg lN (by unfold upx; (repeat' split) <;> omega)) ?_
    exact J18   _ _ h _ (lv_sub hl [0, 1, 2, 3, 4] rfl)
set_option maxHeartbeats 4000000 in
theorem mX_shareByQuotients (l : Launch) (D : va_G) (ad : Nat → Nat) (cI cB : ClassId) (c t : Nat) (v : Nat → Nat) (S K R O : Nat → Int32) (r n all : Nat) (hr7 : r < 7) (hc : c ≤ 6) (hv : ∀ j, j < c → v j ≤ 2999) (hn : n ≤ 31) (hall : all = sumTo v c) (hpos : 0 < all) : Mv l D (tyX cI cB) (WX ad cI cB) yX0_shareByQuotients cX0_shareByQuotients 6 none 3 84 (ad 0) [.int (nI r), .int (nI n), .int (nI all)] (c, t, v, S, K, R, O) (fun u => ∃ S', u = (c, t, v, S', K, R, O) ∧ ∀ j, j < c → S' j = nI (shQ r v c n all j)) := by
  refine Mv.of (by decide) (Nat.le_of_ble_eq_true rfl) rfl ?_
  intro p e s m args below meth cd A ls Q G h hl hret
  have G : GX D A cI cB p s m args cd cX0_shareByQuotients 6 := G
  have h : HX D A ad cI cB s.heap c t v S K R O s.heap [] := h
  have hl : lv_has ls 6 [(0, .ref (ad 0)), (1, .int (nI r)), (2, .int (nI n)), (3, .int (nI all))] := hl
  have hx := G.1.1
  have hb := G.1.2.1
  have hal : all ≤ 17994 := by have := sumTo_le hv; have h2 : c * 2999 ≤ 6 * 2999 := Nat.mul_le_mul_right _ hc; omega
  have hG : sumTo (s0Q r v n all) c ≤ 198 := by have := sumTo_le (v := s0Q r v n all) (c := c) (b := 33) (fun j _ => s0Q_le hn); have h2 : c * 33 ≤ 6 * 33 := Nat.mul_le_mul_right _ hc; omega
  refine lv_iconst (v := (nI 0)) hx hb dX0_shareByQuotients_0 (by decide) ?_
  refine lv_istore (lv' := [(4, .int (nI 0)), (0, .ref (ad 0)), (1, .int (nI r)), (2, .int (nI n)), (3, .int (nI all))]) hx hb dX0_shareByQuotients_1 hl (by decide) rfl (fun ls hl => ?_)
  refine lv_iconst (v := (nI 0)) hx hb dX0_shareByQuotients_3 (by decide) ?_
  refine lv_istore (lv' := [(5, .int (nI 0)), (4, .int (nI 0)), (0, .ref (ad 0)), (1, .int (nI r)), (2, .int (nI n)), (3, .int (nI all))]) hx hb dX0_shareByQuotients_4 hl (by decide) rfl (fun ls hl => ?_)
  have h := x_cS (ov_0 (s := s0Q r v n all)).symm h
  have L6 : ∀ (n6 : Nat) (i : Nat), c - i < n6 → (i ≤ c) → ∀ (H : Heap) (locs : List Loc), HX D A ad cI cB s.heap c t v (ov i (s0Q r v n all) S) K R O H locs → ∀ (ls : Array Slot), lv_has ls 6 [(0, .ref (ad 0)), (1, .int (nI r)), (2, .int (nI n)), (3, .int (nI all)), (4, .int (nI (sumTo (s0Q r v n all) i))), (5, .int (nI i))] → W p l e (rmm 3 84) s m args below meth cd H locs 0 0 Q (F0 m 6 ls []) := by
    intro n6
    induction n6 with
    | zero =>
      intro i hm
      exact absurd hm (Nat.not_lt_zero _)
    | succ n6 ih6 =>
      intro i hm6 hi H locs h ls hl
      refine lv_iload hx hb dX0_shareByQuotients_6 (lv_at hl 5 rfl) ?_
      refine lv_aload_n hx hb dX0_shareByQuotients_8 rfl (lv_at hl 0 rfl) ?_
      refine x_getC G h dX0_shareByQuotients_9 ?_
      refine n_icmp_ge (tgt := 57) hx hb dX0_shareByQuotients_12 (by decide) (by omega) (by omega) (fun c12 => ?_) (fun c12 => ?_)
      · skip
        have hic : i = c := by omega
        have h := x_cS (show ov i (s0Q r v n all) S = ov c (s0Q r v n all) S by rw [hic]) h
        have L57 : ∀ (n57 : Nat) (s1 : Nat → Nat) (g : Nat), g < n57 → (g = sumTo s1 c) → (dnQ r v c (g - n) s1 = dnQ r v c (sumTo (s0Q r v n all) c - n) (s0Q r v n all)) → (n - g = n - sumTo (s0Q r v n all) c) → (g ≤ 198) → ∀ (H : Heap) (locs : List Loc), HX D A ad cI cB s.heap c t v (ov c s1 S) K R O H locs → ∀ (ls : Array Slot), lv_has ls 6 [(0, .ref (ad 0)), (1, .int (nI r)), (2, .int (nI n)), (3, .int (nI all)), (4, .int (nI g))] → W p l e (rmm 3 84) s m args below meth cd H locs 0 0 Q (F0 m 57 ls []) := by
          intro n57
          induction n57 with
          | zero =>
            intro s1 g hm
            exact absurd hm (Nat.not_lt_zero _)
          | succ n57 ih57 =>
            intro s1 g hm57 hg hdn hgn hgb H locs h ls hl
            refine lv_iload hx hb dX0_shareByQuotients_57 (lv_at hl 4 rfl) ?_
            refine lv_iload_n hx hb dX0_shareByQuotients_59 rfl (lv_at hl 2 rfl) ?_
            refine n_icmp_le (tgt := 87) hx hb dX0_shareByQuotients_60 (by decide) (by omega) (by omega) (fun c60 => ?_) (fun c60 => ?_)
            · skip
              have L87 : ∀ (n87 : Nat) (s2 : Nat → Nat) (g2 : Nat), n - g2 < n87 → (g2 = sumTo s2 c) → (upQ r v c (n - g2) s2 = upQ r v c (n - g) s1) → (g2 ≤ n) → ∀ (H : Heap) (locs : List Loc), HX D A ad cI cB s.heap c t v (ov c s2 S) K R O H locs → ∀ (ls : Array Slot), lv_has ls 6 [(0, .ref (ad 0)), (1, .int (nI r)), (2, .int (nI n)), (3, .int (nI all)), (4, .int (nI g2))] → W p l e (rmm 3 84) s m args below meth cd H locs 0 0 Q (F0 m 87 ls []) := by
                intro n87
                induction n87 with
                | zero =>
                  intro s2 g2 hm
                  exact absurd hm (Nat.not_lt_zero _)
                | succ n87 ih87 =>
                  intro s2 g2 hm87 hg2 hup hg2n H locs h ls hl
                  refine lv_iload hx hb dX0_shareByQuotients_87 (lv_at hl 4 rfl) ?_
                  refine lv_iload_n hx hb dX0_shareByQuotients_89 rfl (lv_at hl 2 rfl) ?_
                  refine n_icmp_ge (tgt := 117) hx hb dX0_shareByQuotients_90 (by decide) (by omega) (by omega) (fun c90 => ?_) (fun c90 => ?_)
                  · skip
                    exact hret _ _ _ _ (c, t, v, ov c s2 S, K, R, O) h ⟨_, rfl, fun j hj => by rw [ov_lt hj]; refine congrArg nI (congrFun ?_ j); unfold shQ; rw [← hdn, ← hgn, show g - n = 0 by omega]; show s2 = upQ r v c (n - g) s1; rw [← hup, show n - g2 = 0 by omega]; rfl⟩ dX0_shareByQuotients_117
                  · skip
                    refine lv_aload_n hx hb dX0_shareByQuotients_93 rfl (lv_at hl 0 rfl) ?_
                    refine lv_iload_n hx hb dX0_shareByQuotients_94 rfl (lv_at hl 1 rfl) ?_
                    refine x_callr (x := (oI (fnS r v s2 c))) G h (mX_firstNext l D ad cI cB c t v (ov c s2 S) K R O r s2 hr7 hc hv (fun j hj => ov_lt hj) (fun j hj => by have := sumTo_at (v := s2) hj; omega)) kX_firstNext rfl ⟨Nat.le_of_ble_eq_true rfl, Nat.le_of_ble_eq_true rfl, Nat.le_refl _, Nat.le_refl _⟩ hl.1 rfl (Nat.le_of_ble_eq_true rfl) dX0_shareByQuotients_95 (fun H locs h => ?_)
                    obtain ⟨w2, hw, hw2⟩ := fnS_some (r := r) (v := v) (s := s2) (c := c) (by omega)
                    refine n_toe (show oI (fnS r v s2 c) = nI w2 by rw [hw]; rfl) ?_
                    refine lv_istore (lv' := [(5, .int (nI w2)), (0, .ref (ad 0)), (1, .int (nI r)), (2, .int (nI n)), (3, .int (nI all)), (4, .int (nI g2))]) hx hb dX0_shareByQuotients_98 hl (by decide) rfl (fun ls hl => ?_)
                    refine lv_aload_n hx hb dX0_shareByQuotients_100 rfl (lv_at hl 1 rfl) ?_
                    refine x_getS G h dX0_shareByQuotients_101 ?_
                    refine lv_iload hx hb dX0_shareByQuotients_104 (lv_at hl 0 rfl) ?_
                    refine lv_dup2_11 hx hb dX0_shareByQuotients_106 rfl rfl ?_
                    refine x_ldS (x := (nI (s2 w2))) G h (by omega) (ov_lt hw2.1) dX0_shareByQuotients_107 ?_
                    refine lv_iconst (v := (nI 1)) hx hb dX0_shareByQuotients_108 (by decide) ?_
                    refine n_iadd hx hb dX0_shareByQuotients_109 ?_
                    refine x_stS (S' := ov c (va_up s2 w2 (s2 w2 + 1)) S) G h (by omega) (ov_upd hw2.1) dX0_shareByQuotients_110 (fun H locs h => ?_)
                    refine lv_iinc (v := nI (g2 + 1)) (lv' := [(4, .int (nI (g2 + 1))), (5, .int (nI w2)), (0, .ref (ad 0)), (1, .int (nI r)), (2, .int (nI n)), (3, .int (nI all))]) hx hb dX0_shareByQuotients_111 hl (k := 5) rfl (inc1 _) (by decide) rfl (fun ls hl => ?_)
                    refine lv_goto (tgt := 87) hx hb dX0_shareByQuotients_114 (by decide) ?_
                    exact ih87 (va_up s2 w2 (s2 w2 + 1)) (g2 + 1) (by omega) (by have := sumTo_up (v := s2) (x := s2 w2 + 1) hw2.1; omega) (by rw [← hup, show n - g2 = (n - (g2 + 1)) + 1 by omega]; simp only [upQ, hw]) (by omega) _ _ h _ (lv_sub hl [2, 3, 4, 5, 0] rfl)
              exact L87 _ s1 g (Nat.lt_succ_self _) hg rfl (by omega) _ _ h _ (lv_sub hl [0, 1, 2, 3, 4] rfl)
            · skip
              refine lv_aload_n hx hb dX0_shareByQuotients_63 rfl (lv_at hl 0 rfl) ?_
              refine lv_iload_n hx hb dX0_shareByQuotients_64 rfl (lv_at hl 1 rfl) ?_
              refine x_callr (x := (oI (ltS r v s1 c))) G h (mX_lastTaken l D ad cI cB c t v (ov c s1 S) K R O r s1 hr7 hc hv (fun j hj => ov_lt hj) (fun j hj => by have := sumTo_at (v := s1) hj; omega)) kX_lastTaken rfl ⟨Nat.le_of_ble_eq_true rfl, Nat.le_of_ble_eq_true rfl, Nat.le_refl _, Nat.le_refl _⟩ hl.1 rfl (Nat.le_of_ble_eq_true rfl) dX0_shareByQuotients_65 (fun H locs h => ?_)
              obtain ⟨w1, hw, hw1⟩ := ltS_some (r := r) (v := v) (s := s1) (c := c) (by omega)
              refine n_toe (show oI (ltS r v s1 c) = nI w1 by rw [hw]; rfl) ?_
              refine lv_istore (lv' := [(5, .int (nI w1)), (0, .ref (ad 0)), (1, .int (nI r)), (2, .int (nI n)), (3, .int (nI all)), (4, .int (nI g))]) hx hb dX0_shareByQuotients_68 hl (by decide) rfl (fun ls hl => ?_)
              refine lv_aload_n hx hb dX0_shareByQuotients_70 rfl (lv_at hl 1 rfl) ?_
              refine x_getS G h dX0_shareByQuotients_71 ?_
              refine lv_iload hx hb dX0_shareByQuotients_74 (lv_at hl 0 rfl) ?_
              refine lv_dup2_11 hx hb dX0_shareByQuotients_76 rfl rfl ?_
              refine x_ldS (x := (nI (s1 w1))) G h (by omega) (ov_lt hw1.1) dX0_shareByQuotients_77 ?_
              refine lv_iconst (v := (nI 1)) hx hb dX0_shareByQuotients_78 (by decide) ?_
              refine n_isub hx hb dX0_shareByQuotients_79 (by omega) ?_
              refine x_stS (S' := ov c (va_up s1 w1 (s1 w1 - 1)) S) G h (by omega) (ov_upd hw1.1) dX0_shareByQuotients_80 (fun H locs h => ?_)
              refine lv_iinc (v := nI (g - 1)) (lv' := [(4, .int (nI (g - 1))), (5, .int (nI w1)), (0, .ref (ad 0)), (1, .int (nI r)), (2, .int (nI n)), (3, .int (nI all))]) hx hb dX0_shareByQuotients_81 hl (k := 5) rfl (dec1 (by omega)) (by decide) rfl (fun ls hl => ?_)
              refine lv_goto (tgt := 57) hx hb dX0_shareByQuotients_84 (by decide) ?_
              exact ih57 (va_up s1 w1 (s1 w1 - 1)) (g - 1) (by omega) (by have := sumTo_up (v := s1) (x := s1 w1 - 1) hw1.1; omega) (by rw [← hdn, show g - n = (g - 1 - n) + 1 by omega]; simp only [dnQ, hw]) (by omega) (by omega) _ _ h _ (lv_sub hl [2, 3, 4, 5, 0] rfl)
        exact L57 _ (s0Q r v n all) (sumTo (s0Q r v n all) i) (Nat.lt_succ_self _) (by rw [hic]) (by rw [hic]) (by rw [hic]) (by rw [hic]; exact hG) _ _ h _ (lv_sub hl [0, 1, 2, 3, 4] rfl)
      · skip
        refine lv_aload_n hx hb dX0_shareByQuotients_15 rfl (lv_at hl 0 rfl) ?_
        refine x_getS G h dX0_shareByQuotients_16 ?_
        refine lv_iload hx hb dX0_shareByQuotients_19 (lv_at hl 5 rfl) ?_
        refine lv_iload_n hx hb dX0_shareByQuotients_21 rfl (lv_at hl 2 rfl) ?_
        refine n_if_ne (tgt := 29) hx hb dX0_shareByQuotients_22 (by decide) (by omega) (fun c22 => ?_) (fun c22 => ?_)
        · skip
          refine lv_aload_n hx hb dX0_shareByQuotients_29 rfl (lv_at hl 0 rfl) ?_
          refine lv_iload_n hx hb dX0_shareByQuotients_30 rfl (lv_at hl 1 rfl) ?_
          refine lv_iload hx hb dX0_shareByQuotients_31 (lv_at hl 5 rfl) ?_
          refine lv_iload_n hx hb dX0_shareByQuotients_33 rfl (lv_at hl 2 rfl) ?_
          refine lv_iload_n hx hb dX0_shareByQuotients_34 rfl (lv_at hl 3 rfl) ?_
          refine x_callr (x := (nI (ssF r v n all i (n + 2) 0))) G h (mX_startShare l D ad cI cB c t v (ov i (s0Q r v n all) S) K R O r i n all hr7 (by omega) (hv _ (by omega)) hn hal) kX_startShare rfl ⟨Nat.le_of_ble_eq_true rfl, Nat.le_of_ble_eq_true rfl, Nat.le_refl _, Nat.le_refl _⟩ hl.1 rfl (Nat.le_of_ble_eq_true rfl) dX0_shareByQuotients_35 (fun H locs h => ?_)
          refine n_toe (show nI (ssF r v n all i (n + 2) 0) = nI (s0Q r v n all i) from congrArg nI (by unfold s0Q; split <;> first | rfl | omega)) ?_
          refine x_stS (S' := ov (i + 1) (s0Q r v n all) S) G h (by omega) ov_step dX0_shareByQuotients_38 (fun H locs h => ?_)
          refine lv_iload hx hb dX0_shareByQuotients_39 (lv_at hl 4 rfl) ?_
          refine lv_aload_n hx hb dX0_shareByQuotients_41 rfl (lv_at hl 0 rfl) ?_
          refine x_getS G h dX0_shareByQuotients_42 ?_
          refine lv_iload hx hb dX0_shareByQuotients_45 (lv_at hl 5 rfl) ?_
          refine x_ldS (x := (nI (s0Q r v n all i))) G h (by omega) (ov_lt (by omega)) dX0_shareByQuotients_47 ?_
          refine n_iadd hx hb dX0_shareByQuotients_48 ?_
          refine lv_istore (lv' := [(4, .int (nI ((sumTo (s0Q r v n all) i) + (s0Q r v n all i)))), (0, .ref (ad 0)), (1, .int (nI r)), (2, .int (nI n)), (3, .int (nI all)), (5, .int (nI i))]) hx hb dX0_shareByQuotients_49 hl (by decide) rfl (fun ls hl => ?_)
          refine lv_iinc (v := nI (i + 1)) (lv' := [(5, .int (nI (i + 1))), (4, .int (nI ((sumTo (s0Q r v n all) i) + (s0Q r v n all i)))), (0, .ref (ad 0)), (1, .int (nI r)), (2, .int (nI n)), (3, .int (nI all))]) hx hb dX0_shareByQuotients_51 hl (k := 5) rfl (inc1 _) (by decide) rfl (fun ls hl => ?_)
          refine lv_goto (tgt := 6) hx hb dX0_shareByQuotients_54 (by decide) ?_
          exact ih6 (i + 1) (by omega) (by omega) _ _ h _ (lv_sub hl [2, 3, 4, 5, 1, 0] rfl)
        · skip
          refine lv_iconst (v := (nI 0)) hx hb dX0_shareByQuotients_25 (by decide) ?_
          refine lv_goto (tgt := 38) hx hb dX0_shareByQuotients_26 (by decide) ?_
          refine n_toe (show nI 0 = nI (s0Q r v n all i) from congrArg nI (by unfold s0Q; split <;> first | rfl | omega)) ?_
          refine x_stS (S' := ov (i + 1) (s0Q r v n all) S) G h (by omega) ov_step dX0_shareByQuotients_38 (fun H locs h => ?_)
          refine lv_iload hx hb dX0_shareByQuotients_39 (lv_at hl 4 rfl) ?_
          refine lv_aload_n hx hb dX0_shareByQuotients_41 rfl (lv_at hl 0 rfl) ?_
          refine x_getS G h dX0_shareByQuotients_42 ?_
          refine lv_iload hx hb dX0_shareByQuotients_45 (lv_at hl 5 rfl) ?_
          refine x_ldS (x := (nI (s0Q r v n all i))) G h (by omega) (ov_lt (by omega)) dX0_shareByQuotients_47 ?_
          refine n_iadd hx hb dX0_shareByQuotients_48 ?_
          refine lv_istore (lv' := [(4, .int (nI ((sumTo (s0Q r v n all) i) + (s0Q r v n all i)))), (0, .ref (ad 0)), (1, .int (nI r)), (2, .int (nI n)), (3, .int (nI all)), (5, .int (nI i))]) hx hb dX0_shareByQuotients_49 hl (by decide) rfl (fun ls hl => ?_)
          refine lv_iinc (v := nI (i + 1)) (lv' := [(5, .int (nI (i + 1))), (4, .int (nI ((sumTo (s0Q r v n all) i) + (s0Q r v n all i)))), (0, .ref (ad 0)), (1, .int (nI r)), (2, .int (nI n)), (3, .int (nI all))]) hx hb dX0_shareByQuotients_51 hl (k := 5) rfl (inc1 _) (by decide) rfl (fun ls hl => ?_)
          refine lv_goto (tgt := 6) hx hb dX0_shareByQuotients_54 (by decide) ?_
          exact ih6 (i + 1) (by omega) (by omega) _ _ h _ (lv_sub hl [2, 3, 4, 5, 1, 0] rfl)
  exact L6 _ 0 (Nat.lt_succ_self _) (by omega) _ _ h _ (lv_sub hl [2, 3, 4, 5, 1, 0] rfl)
end
section
set_option maxRecDepth 100000
/-! ===== rests ===== -/
def qtx (r n all : Nat) : Nat := if r = 5 then all else all / (n + 1) + 1
def byx (r n : Nat) : Nat := if r = 5 then n else 1
def baR (r : Nat) (v : Nat → Nat) (n all : Nat) : Nat → Nat := fun i => v i * byx r n / qtx r n all
def rmR (r : Nat) (v : Nat → Nat) (n all : Nat) : Nat → Nat := fun i => v i * byx r n % qtx r n all
/-- i is put behind those that rest as much, from place a down -/
def insF (rm : Nat → Nat) (i : Nat) : Nat → (Nat → Nat) → (Nat → Nat)
  | 0, o => va_up o 0 i
  | a + 1, o => if rm (o a) < rm i then insF rm i a (va_up o (a + 1) (o a)) else va_up o (a + 1) i
def orS (v rm : Nat → Nat) : Nat → (Nat → Nat)
  | 0 => fun _ => 0
  | i + 1 => if 0 < v i then insF rm i (cntP v i) (orS v rm i) else orS v rm i
def dsR (o : Nat → Nat) (able : Nat) : Nat → Nat → (Nat → Nat) → (Nat → Nat)
  | 0, _, s => s
  | l + 1, a, s => dsR o able l (if a + 1 < able then a + 1 else 0) (va_up s (o a) (s (o a) + 1))
def shR (r : Nat) (v : Nat → Nat) (c n all : Nat) : Nat → Nat :=
  dsR (orS v (rmR r v n all) c) (cntP v c) (n - sumTo (baR r v n all) c) 0 (baR r v n all)
/-- what a list gets: the whole of it -/
def sh (r : Nat) (v : Nat → Nat) (c n : Nat) : Nat → Nat := if sumTo v c = 0 then fun _ => 0 else if r < 5 then shQ r v c n (sumTo v c) else shR r v c n (sumTo v c)
theorem insF_go {rm o : Nat → Nat} {i a : Nat} (h0 : 0 < a) (h : rm (o (a - 1)) < rm i) : insF rm i a o = insF rm i (a - 1) (va_up o a (o (a - 1))) := by
  obtain ⟨b, rfl⟩ : ∃ b, a = b + 1 := ⟨a - 1, by omega⟩
  simp only [Nat.add_sub_cancel] at h ⊢
  rw [insF, if_pos h]
theorem insF_stop {rm o : Nat → Nat} {i a : Nat} (h : a = 0 ∨ rm i ≤ rm (o (a - 1))) : insF rm i a o = va_up o a i := by
  cases a with
  | zero => rfl
  | succ b =>
    rcases h with h | h
    · omega
    · simp only [Nat.add_sub_cancel] at h
      rw [insF, if_neg (by omega)]
/-- a hole at a moves down by one -/
theorem hole_dn {F : Nat → Int32} {o : Nat → Nat} {a able : Nat} (h : ∀ p, p ≤ able → p ≠ a → F p = nI (o p)) (x : Nat) : ∀ p, p ≤ able → p ≠ a - 1 → upd F a (nI x) p = nI (va_up o a x p) := by
  intro p h1 h2
  by_cases hp : p = a
  · subst hp
    simp [upd, va_up]
  · simp [upd, va_up, hp, h p h1 hp]
theorem hole_lt {o : Nat → Nat} {a able i x : Nat} (h : ∀ p, p ≤ able → p ≠ a → o p < i) (hx : x < i) : ∀ p, p ≤ able → p ≠ a - 1 → va_up o a x p < i := by
  intro p h1 h2
  by_cases hp : p = a
  · subst hp
    rw [vu_eq]; exact hx
  · rw [vu_ne hp]; exact h p h1 hp
theorem hole_fill {F : Nat → Int32} {o : Nat → Nat} {a able : Nat} (h : ∀ p, p ≤ able → p ≠ a → F p = nI (o p)) (x : Nat) : ∀ p, p < able + 1 → upd F a (nI x) p = nI (va_up o a x p) := by
  intro p h1
  by_cases hp : p = a
  · subst hp
    simp [upd, va_up]
  · simp [upd, va_up, hp, h p (by omega) hp]
theorem insF_lt {rm : Nat → Nat} {i : Nat} : ∀ {a : Nat} {o : Nat → Nat} {m : Nat}, (∀ p, p < m → p ≠ a → o p < i + 1) → ∀ p, p < m → insF rm i a o p < i + 1
  | 0, o, m, h, p, hp => by
    show va_up o 0 i p < i + 1
    by_cases hq : p = 0
    · subst hq; rw [vu_eq]; omega
    · rw [vu_ne hq]; exact h p hp hq
  | a + 1, o, m, h, p, hp => by
    rw [insF]
    split
    · by_cases ham : a < m
      · refine insF_lt (m := m) (fun q hq1 hq2 => ?_) p hp
        by_cases hqa : q = a + 1
        · subst hqa
          rw [vu_eq]
          exact h a ham (by omega)
        · rw [vu_ne hqa]; exact h q hq1 hqa
      · refine insF_lt (m := m) (fun q hq1 hq2 => ?_) p hp
        rw [vu_ne (by omega)]; exact h q hq1 (by omega)
    · by_cases hq : p = a + 1
      · subst hq; rw [vu_eq]; omega
      · rw [vu_ne hq]; exact h p hp hq
theorem cntP_s {v : Nat → Nat} {i : Nat} : cntP v (i + 1) = cntP v i + (if 0 < v i then 1 else 0) := rfl
theorem cntP_le {v : Nat → Nat} : ∀ {i : Nat}, cntP v i ≤ i
  | 0 => Nat.le_refl _
  | i + 1 => by
    have := cntP_le (v := v) (i := i)
    rw [cntP_s]
    split <;> omega
theorem orS_lt {v rm : Nat → Nat} : ∀ {i p : Nat}, p < cntP v i → orS v rm i p < i
  | 0, p, h => by simp [cntP] at h
  | i + 1, p, h => by
    rw [cntP_s] at h
    unfold orS
    split
    · rename_i hv
      rw [if_pos hv] at h
      refine insF_lt (m := cntP v i + 1) (fun q h1 h2 => ?_) p h
      have := orS_lt (v := v) (rm := rm) (i := i) (p := q) (by omega)
      omega
    · rename_i hv
      rw [if_neg hv] at h
      have := orS_lt (v := v) (rm := rm) (i := i) (p := p) (by omega)
      omega
theorem cntP_pos {v : Nat → Nat} {c : Nat} (h : 0 < sumTo v c) : 0 < cntP v c := by
  obtain ⟨j, h1, h2⟩ := sumTo_pos h
  clear h
  induction c with
  | zero => omega
  | succ c ih =>
    rw [cntP_s]
    by_cases hj : j = c
    · subst hj
      rw [if_pos h2]; omega
    · have := ih (by omega)
      omega
theorem qtx_pos {r n all : Nat} (h : 0 < all) : 0 < qtx r n all := by
  unfold qtx
  split
  · exact h
  · exact Nat.succ_pos _
theorem qtx_le {r n all : Nat} : qtx r n all ≤ all + 1 := by
  have := Nat.div_le_self all (n + 1)
  unfold qtx
  split <;> omega
theorem byx_le {r n : Nat} (h : n ≤ 31) : byx r n ≤ 31 := by
  unfold byx
  split <;> omega
theorem ba_mul {r : Nat} {v : Nat → Nat} {n all i : Nat} : baR r v n all i * qtx r n all ≤ v i * byx r n := Nat.div_mul_le_self _ _
theorem rm_eq {r : Nat} {v : Nat → Nat} {n all i : Nat} : v i * byx r n - baR r v n all i * qtx r n all = rmR r v n all i := by
  have h := Nat.div_add_mod (v i * byx r n) (qtx r n all)
  have h2 : qtx r n all * (v i * byx r n / qtx r n all) = baR r v n all i * qtx r n all := Nat.mul_comm _ _
  unfold rmR
  omega
theorem ba_sum {r : Nat} {v : Nat → Nat} {n all : Nat} : ∀ {c : Nat}, sumTo (baR r v n all) c * qtx r n all ≤ sumTo v c * byx r n
  | 0 => by simp [sumTo]
  | c + 1 => by
    have h1 := ba_sum (r := r) (v := v) (n := n) (all := all) (c := c)
    have h2 := ba_mul (r := r) (v := v) (n := n) (all := all) (i := c)
    show (sumTo (baR r v n all) c + baR r v n all c) * qtx r n all ≤ (sumTo v c + v c) * byx r n
    rw [Nat.add_mul, Nat.add_mul]
    omega
theorem ba_tot {r : Nat} {v : Nat → Nat} {c n all : Nat} (ha : all = sumTo v c) (hp : 0 < all) : sumTo (baR r v n all) c ≤ n := by
  have h := ba_sum (r := r) (v := v) (n := n) (all := all) (c := c)
  rw [← ha] at h
  by_cases hr : r = 5
  · have h1 : qtx r n all = all := by simp [qtx, hr]
    have h2 : byx r n = n := by simp [byx, hr]
    rw [h1, h2, Nat.mul_comm] at h
    exact Nat.le_of_mul_le_mul_left h hp
  · have h1 : qtx r n all = all / (n + 1) + 1 := by simp [qtx, hr]
    have h2 : byx r n = 1 := by simp [byx, hr]
    rw [h2, Nat.mul_one] at h
    have h3 : all < (n + 1) * qtx r n all := by
      rw [h1]
      exact Nat.lt_mul_div_succ all (by omega)
    have h4 : sumTo (baR r v n all) c * qtx r n all < (n + 1) * qtx r n all := by omega
    have h5 := Nat.lt_of_mul_lt_mul_right h4
    omega
end
section
set_option maxRecDepth 100000
theorem dsR_go {o s : Nat → Nat} {ab l a : Nat} (h : 0 < l) : dsR o ab l a s = dsR o ab (l - 1) (if a + 1 < ab then a + 1 else 0) (va_up s (o a) (s (o a) + 1)) := by
  obtain ⟨b, rfl⟩ : ∃ b, l = b + 1 := ⟨l - 1, by omega⟩
  rfl
theorem cntP_0 {v : Nat → Nat} {i : Nat} (h : v i = 0) : cntP v (i + 1) = cntP v i := by
  rw [cntP_s, if_neg (by omega)]; rfl
theorem cntP_1 {v : Nat → Nat} {i : Nat} (h : 0 < v i) : cntP v (i + 1) = cntP v i + 1 := by
  rw [cntP_s, if_pos h]
theorem orS_0 {v rm : Nat → Nat} {i : Nat} (h : v i = 0) : orS v rm (i + 1) = orS v rm i := by
  rw [orS, if_neg (by omega)]
theorem orS_1 {v rm : Nat → Nat} {i : Nat} (h : 0 < v i) : orS v rm (i + 1) = insF rm i (cntP v i) (orS v rm i) := by
  rw [orS, if_pos h]
theorem upd_keep {F S : Nat → Int32} {i : Nat} (h : ∀ j, j < i → F j = S j) : ∀ j, j < i + 1 → upd F i (S i) j = S j := by
  intro j hj
  by_cases hq : j = i
  · subst hq; simp [upd]
  · simp [upd, hq, h j (by omega)]
theorem up_le {v : Nat → Nat} {c i x b : Nat} (h : ∀ j, j < c → v j ≤ b) (hx : x ≤ b) : ∀ j, j < c → va_up v i x j ≤ b := by
  intro j hj
  by_cases hq : j = i
  · subst hq; rw [vu_eq]; exact hx
  · rw [vu_ne hq]; exact h j hj
theorem up_back {v : Nat → Nat} {i x : Nat} : va_up (va_up v i x) i (v i) = v := by
  funext j
  by_cases hq : j = i
  · subst hq; simp [va_up]
  · simp [va_up, hq]
set_option maxHeartbeats 4000000 in
theorem mX_putInOrder (l : Launch) (D : va_G) (ad : Nat → Nat) (cI cB : ClassId) (c t : Nat) (v : Nat → Nat) (S K R O : Nat → Int32) (i able : Nat) (o rm : Nat → Nat) (hi : i < 6) (ha : able < 6) (hO : ∀ p, p < able → O p = nI (o p)) (ho : ∀ p, p < able → o p < i) (hR : ∀ j, j ≤ i → R j = nI (rm j)) (hrb : ∀ j, rm j < 2 ^ 31) : Mi l D (tyX cI cB) (WX ad cI cB) yX0_putInOrder cX0_putInOrder 4 (some .int) 0 0 (ad 0) [.int (nI i), .int (nI able)] (c, t, v, S, K, R, O) (fun z u => z = nI (able + 1) ∧ ∃ O', u = (c, t, v, S, K, R, O') ∧ ∀ p, p < able + 1 → O' p = nI (insF rm i able o p)) := by
  refine Mi.of (by decide) (Nat.le_of_ble_eq_true rfl) ?_
  intro p e s m args below meth cd A ls Q G hrt h hl hret
  have G : GX D A cI cB p s m args cd cX0_putInOrder 4 := G
  have h : HX D A ad cI cB s.heap c t v S K R O s.heap [] := h
  have hl : lv_has ls 4 [(0, .ref (ad 0)), (1, .int (nI i)), (2, .int (nI able))] := hl
  have hx := G.1.1
  have hb := G.1.2.1
  refine lv_iload_n hx hb dX0_putInOrder_0 rfl (lv_at hl 2 rfl) ?_
  refine lv_istore_n (lv' := [(3, .int (nI able)), (0, .ref (ad 0)), (1, .int (nI i)), (2, .int (nI able))]) hx hb dX0_putInOrder_1 rfl hl (by decide) rfl (fun ls hl => ?_)
  have L2 : ∀ (n2 : Nat) (a : Nat) (o1 : Nat → Nat) (F : Nat → Int32), a < n2 → (a ≤ able) → (∀ p, p ≤ able → p ≠ a → F p = nI (o1 p)) → (∀ p, p ≤ able → p ≠ a → o1 p < i) → (insF rm i a o1 = insF rm i able o) → ∀ (H : Heap) (locs : List Loc), HX D A ad cI cB s.heap c t v S K R F H locs → ∀ (ls : Array Slot), lv_has ls 4 [(0, .ref (ad 0)), (1, .int (nI i)), (2, .int (nI able)), (3, .int (nI a))] → W p l e (rmm 0 0) s m args below meth cd H locs 0 0 Q (F0 m 2 ls []) := by
    intro n2
    induction n2 with
    | zero =>
      intro a o1 F hm
      exact absurd hm (Nat.not_lt_zero _)
    | succ n2 ih2 =>
      intro a o1 F hm2 ha1 hF hlt hins H locs h ls hl
      refine lv_iload_n hx hb dX0_putInOrder_2 rfl (lv_at hl 3 rfl) ?_
      refine n_if_le (tgt := 48) hx hb dX0_putInOrder_3 (by decide) (by omega) (fun c3 => ?_) (fun c3 => ?_)
      · skip
        refine lv_aload_n hx hb dX0_putInOrder_48 rfl (lv_at hl 0 rfl) ?_
        refine x_getO G h dX0_putInOrder_49 ?_
        refine lv_iload_n hx hb dX0_putInOrder_52 rfl (lv_at hl 3 rfl) ?_
        refine lv_iload_n hx hb dX0_putInOrder_53 rfl (lv_at hl 1 rfl) ?_
        refine lv_i2b hx hb dX0_putInOrder_54 (i2b_n _ (by omega)) ?_
        refine x_stO (O' := upd F a (nI i)) G h (by omega) (by omega) rfl dX0_putInOrder_55 (fun H locs h => ?_)
        refine lv_iload_n hx hb dX0_putInOrder_56 rfl (lv_at hl 2 rfl) ?_
        refine lv_iconst (v := (nI 1)) hx hb dX0_putInOrder_57 (by decide) ?_
        refine n_iadd hx hb dX0_putInOrder_58 ?_
        exact hret _ _ _ _ _ (c, t, v, S, K, R, upd F a (nI i)) _ h ⟨rfl, _, rfl, fun p hp => by rw [← hins, insF_stop (Or.inl c3)]; exact hole_fill hF i p hp⟩ hrt rfl dX0_putInOrder_59
      · skip
        have ho1 := hlt (a - 1) (by omega) (by omega)
        refine lv_aload_n hx hb dX0_putInOrder_6 rfl (lv_at hl 0 rfl) ?_
        refine x_getR G h dX0_putInOrder_7 ?_
        refine lv_aload_n hx hb dX0_putInOrder_10 rfl (lv_at hl 0 rfl) ?_
        refine x_getO G h dX0_putInOrder_11 ?_
        refine lv_iload_n hx hb dX0_putInOrder_14 rfl (lv_at hl 3 rfl) ?_
        refine lv_iconst (v := (nI 1)) hx hb dX0_putInOrder_15 (by decide) ?_
        refine n_isub hx hb dX0_putInOrder_16 (by omega) ?_
        refine x_ldO (x := (nI (o1 (a - 1)))) G h (by omega) (hF _ (by omega) (by omega)) dX0_putInOrder_17 ?_
        refine x_ldR (x := (nI (rm (o1 (a - 1))))) G h (by omega) (hR _ (by omega)) dX0_putInOrder_18 ?_
        refine lv_aload_n hx hb dX0_putInOrder_19 rfl (lv_at hl 0 rfl) ?_
        refine x_getR G h dX0_putInOrder_20 ?_
        refine lv_iload_n hx hb dX0_putInOrder_23 rfl (lv_at hl 1 rfl) ?_
        refine x_ldR (x := (nI (rm i))) G h (by omega) (hR _ (Nat.le_refl _)) dX0_putInOrder_24 ?_
        refine n_icmp_ge (tgt := 48) hx hb dX0_putInOrder_25 (by decide) (hrb _) (hrb _) (fun c25 => ?_) (fun c25 => ?_)
        · skip
          refine lv_aload_n hx hb dX0_putInOrder_48 rfl (lv_at hl 0 rfl) ?_
          refine x_getO G h dX0_putInOrder_49 ?_
          refine lv_iload_n hx hb dX0_putInOrder_52 rfl (lv_at hl 3 rfl) ?_
          refine lv_iload_n hx hb dX0_putInOrder_53 rfl (lv_at hl 1 rfl) ?_
          refine lv_i2b hx hb dX0_putInOrder_54 (i2b_n _ (by omega)) ?_
          refine x_stO (O' := upd F a (nI i)) G h (by omega) (by omega) rfl dX0_putInOrder_55 (fun H locs h => ?_)
          refine lv_iload_n hx hb dX0_putInOrder_56 rfl (lv_at hl 2 rfl) ?_
          refine lv_iconst (v := (nI 1)) hx hb dX0_putInOrder_57 (by decide) ?_
          refine n_iadd hx hb dX0_putInOrder_58 ?_
          exact hret _ _ _ _ _ (c, t, v, S, K, R, upd F a (nI i)) _ h ⟨rfl, _, rfl, fun p hp => by rw [← hins, insF_stop (Or.inr c25)]; exact hole_fill hF i p hp⟩ hrt rfl dX0_putInOrder_59
        · skip
          refine lv_aload_n hx hb dX0_putInOrder_28 rfl (lv_at hl 0 rfl) ?_
          refine x_getO G h dX0_putInOrder_29 ?_
          refine lv_iload_n hx hb dX0_putInOrder_32 rfl (lv_at hl 3 rfl) ?_
          refine lv_aload_n hx hb dX0_putInOrder_33 rfl (lv_at hl 0 rfl) ?_
          refine x_getO G h dX0_putInOrder_34 ?_
          refine lv_iload_n hx hb dX0_putInOrder_37 rfl (lv_at hl 3 rfl) ?_
          refine lv_iconst (v := (nI 1)) hx hb dX0_putInOrder_38 (by decide) ?_
          refine n_isub hx hb dX0_putInOrder_39 (by omega) ?_
          refine x_ldO (x := (nI (o1 (a - 1)))) G h (by omega) (hF _ (by omega) (by omega)) dX0_putInOrder_40 ?_
          refine x_stO (O' := upd F a (nI (o1 (a - 1)))) G h (by omega) (by omega) rfl dX0_putInOrder_41 (fun H locs h => ?_)
          refine lv_iinc (v := nI (a - 1)) (lv' := [(3, .int (nI (a - 1))), (0, .ref (ad 0)), (1, .int (nI i)), (2, .int (nI able))]) hx hb dX0_putInOrder_42 hl (k := 3) rfl (dec1 (by omega)) (by decide) rfl (fun ls hl => ?_)
          refine lv_goto (tgt := 2) hx hb dX0_putInOrder_45 (by decide) ?_
          exact ih2 (a - 1) (va_up o1 a (o1 (a - 1))) (upd F a (nI (o1 (a - 1)))) (by omega) (by omega) (hole_dn hF _) (hole_lt hlt (hlt _ (by omega) (by omega))) (by rw [← hins, insF_go c3 c25]) _ _ h _ (lv_sub hl [1, 2, 3, 0] rfl)
  exact L2 _ able o O (Nat.lt_succ_self _) (Nat.le_refl _) (fun p h1 h2 => hO p (by omega)) (fun p h1 h2 => ho p (by omega)) rfl _ _ h _ (lv_sub hl [1, 2, 3, 0] rfl)
set_option maxHeartbeats 4000000 in
theorem mX_shareByRests (l : Launch) (D : va_G) (ad : Nat → Nat) (cI cB : ClassId) (c t : Nat) (v : Nat → Nat) (S K R O : Nat → Int32) (r n all : Nat) (hr7 : r < 7) (hc : c ≤ 6) (hv : ∀ j, j < c → v j ≤ 2999) (hn : n ≤ 31) (hall : all = sumTo v c) (hpos : 0 < all) : Mv l D (tyX cI cB) (WX ad cI cB) yX0_shareByRests cX0_shareByRests 10 none 1 23 (ad 0) [.int (nI r), .int (nI n), .int (nI all)] (c, t, v, S, K, R, O) (fun u => ∃ S' R' O', u = (c, t, v, S', K, R', O') ∧ ∀ j, j < c → S' j = nI (shR r v c n all j)) := by
  refine Mv.of (by decide) (Nat.le_of_ble_eq_true rfl) rfl ?_
  intro p e s m args below meth cd A ls Q G h hl hret
  have G : GX D A cI cB p s m args cd cX0_shareByRests 10 := G
  have h : HX D A ad cI cB s.heap c t v S K R O s.heap [] := h
  have hl : lv_has ls 10 [(0, .ref (ad 0)), (1, .int (nI r)), (2, .int (nI n)), (3, .int (nI all))] := hl
  have hx := G.1.1
  have hb := G.1.2.1
  have hal : all ≤ 17994 := by have := sumTo_le hv; have h2 : c * 2999 ≤ 6 * 2999 := Nat.mul_le_mul_right _ hc; omega
  have hq := qtx_pos (r := r) (n := n) hpos
  have hqb := qtx_le (r := r) (n := n) (all := all)
  have hby := byx_le (r := r) hn
  have htot := ba_tot (r := r) (n := n) hall hpos
  have hrmb : ∀ j, rmR r v n all j < 2 ^ 31 := fun j => Nat.lt_trans (Nat.mod_lt _ hq) (by omega)
  have J28 :  ∀ (H : Heap) (locs : List Loc), HX D A ad cI cB s.heap c t v S K R O H locs → ∀ (ls : Array Slot), lv_has ls 10 [(0, .ref (ad 0)), (1, .int (nI r)), (2, .int (nI n)), (3, .int (nI all)), (4, .int (nI (qtx r n all)))] → W p l e (rmm 1 23) s m args below meth cd H locs 0 0 Q (F0 m 28 ls [.int (nI (byx r n))]) := by
    intro   H locs h ls hl
    refine lv_istore (lv' := [(5, .int (nI (byx r n))), (0, .ref (ad 0)), (1, .int (nI r)), (2, .int (nI n)), (3, .int (nI all)), (4, .int (nI (qtx r n all)))]) hx hb dX0_shareByRests_28 hl (by decide) rfl (fun ls hl => ?_)
    refine lv_iload_n hx hb dX0_shareByRests_30 rfl (lv_at hl 3 rfl) ?_
    refine lv_istore (lv' := [(6, .int (nI n)), (5, .int (nI (byx r n))), (0, .ref (ad 0)), (1, .int (nI r)), (2, .int (nI n)), (3, .int (nI all)), (4, .int (nI (qtx r n all)))]) hx hb dX0_shareByRests_31 hl (by decide) rfl (fun ls hl => ?_)
    refine lv_iconst (v := (nI 0)) hx hb dX0_shareByRests_33 (by decide) ?_
    refine lv_istore (lv' := [(7, .int (nI 0)), (6, .int (nI n)), (5, .int (nI (byx r n))), (0, .ref (ad 0)), (1, .int (nI r)), (2, .int (nI n)), (3, .int (nI all)), (4, .int (nI (qtx r n all)))]) hx hb dX0_shareByRests_34 hl (by decide) rfl (fun ls hl => ?_)
    refine lv_iconst (v := (nI 0)) hx hb dX0_shareByRests_36 (by decide) ?_
    refine lv_istore (lv' := [(8, .int (nI 0)), (7, .int (nI 0)), (6, .int (nI n)), (5, .int (nI (byx r n))), (0, .ref (ad 0)), (1, .int (nI r)), (2, .int (nI n)), (3, .int (nI all)), (4, .int (nI (qtx r n all)))]) hx hb dX0_shareByRests_37 hl (by decide) rfl (fun ls hl => ?_)
    have h := x_cS (ov_0 (s := baR r v n all)).symm (x_cR (ov_0 (s := rmR r v n all)).symm h)
    have L39 : ∀ (n39 : Nat) (i : Nat) (ab : Nat) (F : Nat → Int32), c - i < n39 → (i ≤ c) → (ab = cntP v i) → (∀ p, p < ab → F p = nI (orS v (rmR r v n all) i p)) → ∀ (H : Heap) (locs : List Loc), HX D A ad cI cB s.heap c t v (ov i (baR r v n all) S) K (ov i (rmR r v n all) R) F H locs → ∀ (ls : Array Slot), lv_has ls 10 [(0, .ref (ad 0)), (1, .int (nI r)), (2, .int (nI n)), (3, .int (nI all)), (4, .int (nI (qtx r n all))), (5, .int (nI (byx r n))), (6, .int (nI (n - sumTo (baR r v n all) i))), (7, .int (nI ab)), (8, .int (nI i))] → W p l e (rmm 1 23) s m args below meth cd H locs 0 0 Q (F0 m 39 ls []) := by
      intro n39
      induction n39 with
      | zero =>
        intro i ab F hm
        exact absurd hm (Nat.not_lt_zero _)
      | succ n39 ih39 =>
        intro i ab F hm39 hi hab hF H locs h ls hl
        refine lv_iload hx hb dX0_shareByRests_39 (lv_at hl 8 rfl) ?_
        refine lv_aload_n hx hb dX0_shareByRests_41 rfl (lv_at hl 0 rfl) ?_
        refine x_getC G h dX0_shareByRests_42 ?_
        refine n_icmp_ge (tgt := 139) hx hb dX0_shareByRests_45 (by decide) (by omega) (by omega) (fun c45 => ?_) (fun c45 => ?_)
        · skip
          refine lv_iconst (v := (nI 0)) hx hb dX0_shareByRests_139 (by decide) ?_
          refine lv_istore (lv' := [(8, .int (nI 0)), (0, .ref (ad 0)), (1, .int (nI r)), (2, .int (nI n)), (3, .int (nI all)), (4, .int (nI (qtx r n all))), (5, .int (nI (byx r n))), (6, .int (nI (n - sumTo (baR r v n all) i))), (7, .int (nI ab))]) hx hb dX0_shareByRests_140 hl (by decide) rfl (fun ls hl => ?_)
          have hic : i = c := by omega
          have hF : ∀ p, p < ab → F p = nI ((orS v (rmR r v n all) c) p) := by rw [← hic]; exact hF
          have h := x_cS (show ov i (baR r v n all) S = ov c (baR r v n all) S by rw [hic]) (x_cR (show ov i (rmR r v n all) R = ov c (rmR r v n all) R by rw [hic]) h)
          have L142 : ∀ (n142 : Nat) (lf : Nat) (at1 : Nat) (sx : Nat → Nat), lf < n142 → (lf ≤ n) → (at1 < ab) → (dsR (orS v (rmR r v n all) c) ab lf at1 sx = shR r v c n all) → ∀ (H : Heap) (locs : List Loc), HX D A ad cI cB s.heap c t v (ov c sx S) K (ov c (rmR r v n all) R) F H locs → ∀ (ls : Array Slot), lv_has ls 10 [(0, .ref (ad 0)), (1, .int (nI r)), (2, .int (nI n)), (3, .int (nI all)), (4, .int (nI (qtx r n all))), (5, .int (nI (byx r n))), (6, .int (nI lf)), (7, .int (nI ab)), (8, .int (nI at1))] → W p l e (rmm 1 23) s m args below meth cd H locs 0 0 Q (F0 m 142 ls []) := by
            intro n142
            induction n142 with
            | zero =>
              intro lf at1 sx hm
              exact absurd hm (Nat.not_lt_zero _)
            | succ n142 ih142 =>
              intro lf at1 sx hm142 hlf hat hds H locs h ls hl
              have hoc : (orS v (rmR r v n all) c) at1 < c := orS_lt (by rw [← hic, ← hab]; exact hat)
              have habc := cntP_le (v := v) (i := i)
              refine lv_iload hx hb dX0_shareByRests_142 (lv_at hl 6 rfl) ?_
              refine n_if_le (tgt := 193) hx hb dX0_shareByRests_144 (by decide) (by omega) (fun c144 => ?_) (fun c144 => ?_)
              · skip
                exact hret _ _ _ _ (c, t, v, ov c sx S, K, ov c (rmR r v n all) R, F) h ⟨_, _, _, rfl, fun j hj => by rw [ov_lt hj, ← hds, c144]; rfl⟩ dX0_shareByRests_193
              · skip
                refine lv_iload hx hb dX0_shareByRests_147 (lv_at hl 7 rfl) ?_
                refine n_if_le (tgt := 193) hx hb dX0_shareByRests_149 (by decide) (by omega) (fun c149 => absurd c149 (by omega)) (fun c149 => ?_)
                refine lv_aload_n hx hb dX0_shareByRests_152 rfl (lv_at hl 0 rfl) ?_
                refine x_getS G h dX0_shareByRests_153 ?_
                refine lv_aload_n hx hb dX0_shareByRests_156 rfl (lv_at hl 0 rfl) ?_
                refine x_getO G h dX0_shareByRests_157 ?_
                refine lv_iload hx hb dX0_shareByRests_160 (lv_at hl 8 rfl) ?_
                refine x_ldO (x := (nI ((orS v (rmR r v n all) c) at1))) G h (by omega) (hF _ hat) dX0_shareByRests_162 ?_
                refine lv_dup2_11 hx hb dX0_shareByRests_163 rfl rfl ?_
                refine x_ldS (x := (nI (sx ((orS v (rmR r v n all) c) at1)))) G h (by omega) (ov_lt hoc) dX0_shareByRests_164 ?_
                refine lv_iconst (v := (nI 1)) hx hb dX0_shareByRests_165 (by decide) ?_
                refine n_iadd hx hb dX0_shareByRests_166 ?_
                refine x_stS (S' := ov c (va_up sx ((orS v (rmR r v n all) c) at1) (sx ((orS v (rmR r v n all) c) at1) + 1)) S) G h (by omega) (ov_upd hoc) dX0_shareByRests_167 (fun H locs h => ?_)
                refine lv_iinc (v := nI (lf - 1)) (lv' := [(6, .int (nI (lf - 1))), (0, .ref (ad 0)), (1, .int (nI r)), (2, .int (nI n)), (3, .int (nI all)), (4, .int (nI (qtx r n all))), (5, .int (nI (byx r n))), (7, .int (nI ab)), (8, .int (nI at1))]) hx hb dX0_shareByRests_168 hl (k := 6) rfl (dec1 (by omega)) (by decide) rfl (fun ls hl => ?_)
                refine lv_iload hx hb dX0_shareByRests_171 (lv_at hl 8 rfl) ?_
                refine lv_iconst (v := (nI 1)) hx hb dX0_shareByRests_173 (by decide) ?_
                refine n_iadd hx hb dX0_shareByRests_174 ?_
                refine lv_iload hx hb dX0_shareByRests_175 (lv_at hl 7 rfl) ?_
                refine n_icmp_ge (tgt := 187) hx hb dX0_shareByRests_177 (by decide) (by omega) (by omega) (fun c177 => ?_) (fun c177 => ?_)
                · skip
                  refine lv_iconst (v := (nI 0)) hx hb dX0_shareByRests_187 (by decide) ?_
                  refine lv_istore (lv' := [(8, .int (nI 0)), (6, .int (nI (lf - 1))), (0, .ref (ad 0)), (1, .int (nI r)), (2, .int (nI n)), (3, .int (nI all)), (4, .int (nI (qtx r n all))), (5, .int (nI (byx r n))), (7, .int (nI ab))]) hx hb dX0_shareByRests_188 hl (by decide) rfl (fun ls hl => ?_)
                  refine lv_goto (tgt := 142) hx hb dX0_shareByRests_190 (by decide) ?_
                  exact ih142 (lf - 1) 0 (va_up sx ((orS v (rmR r v n all) c) at1) (sx ((orS v (rmR r v n all) c) at1) + 1)) (by omega) (by omega) (by omega) (by rw [← hds, dsR_go c144, if_neg (by omega)]) _ _ h _ (lv_sub hl [2, 3, 4, 5, 6, 7, 1, 8, 0] rfl)
                · skip
                  refine lv_iload hx hb dX0_shareByRests_180 (lv_at hl 8 rfl) ?_
                  refine lv_iconst (v := (nI 1)) hx hb dX0_shareByRests_182 (by decide) ?_
                  refine n_iadd hx hb dX0_shareByRests_183 ?_
                  refine lv_goto (tgt := 188) hx hb dX0_shareByRests_184 (by decide) ?_
                  refine lv_istore (lv' := [(8, .int (nI (at1 + 1))), (6, .int (nI (lf - 1))), (0, .ref (ad 0)), (1, .int (nI r)), (2, .int (nI n)), (3, .int (nI all)), (4, .int (nI (qtx r n all))), (5, .int (nI (byx r n))), (7, .int (nI ab))]) hx hb dX0_shareByRests_188 hl (by decide) rfl (fun ls hl => ?_)
                  refine lv_goto (tgt := 142) hx hb dX0_shareByRests_190 (by decide) ?_
                  exact ih142 (lf - 1) (at1 + 1) (va_up sx ((orS v (rmR r v n all) c) at1) (sx ((orS v (rmR r v n all) c) at1) + 1)) (by omega) (by omega) (by omega) (by rw [← hds, dsR_go c144, if_pos c177]) _ _ h _ (lv_sub hl [2, 3, 4, 5, 6, 7, 1, 8, 0] rfl)
          exact L142 _ (n - sumTo (baR r v n all) i) 0 (baR r v n all) (Nat.lt_succ_self _) (Nat.sub_le _ _) (by rw [hab, hic]; exact cntP_pos (by omega)) (by rw [hab, hic]; rfl) _ _ h _ (lv_sub hl [1, 2, 3, 4, 5, 6, 7, 8, 0] rfl)
        · skip
          have hvi := hv i (by omega)
          have b9 := Nat.mul_le_mul hvi hby
          have hci := cntP_le (v := v) (i := i)
          refine lv_aload_n hx hb dX0_shareByRests_48 rfl (lv_at hl 0 rfl) ?_
          refine x_getV G h dX0_shareByRests_49 ?_
          refine lv_iload hx hb dX0_shareByRests_52 (lv_at hl 8 rfl) ?_
          refine x_ldV G h (by omega) dX0_shareByRests_54 ?_
          refine lv_iload hx hb dX0_shareByRests_55 (lv_at hl 5 rfl) ?_
          refine n_imul hx hb dX0_shareByRests_57 ?_
          refine lv_istore (lv' := [(9, .int (nI ((v i) * (byx r n)))), (0, .ref (ad 0)), (1, .int (nI r)), (2, .int (nI n)), (3, .int (nI all)), (4, .int (nI (qtx r n all))), (5, .int (nI (byx r n))), (6, .int (nI (n - sumTo (baR r v n all) i))), (7, .int (nI ab)), (8, .int (nI i))]) hx hb dX0_shareByRests_58 hl (by decide) rfl (fun ls hl => ?_)
          refine lv_aload_n hx hb dX0_shareByRests_60 rfl (lv_at hl 1 rfl) ?_
          refine x_getS G h dX0_shareByRests_61 ?_
          refine lv_iload hx hb dX0_shareByRests_64 (lv_at hl 9 rfl) ?_
          refine lv_iload hx hb dX0_shareByRests_66 (lv_at hl 5 rfl) ?_
          refine n_if_le (tgt := 79) hx hb dX0_shareByRests_68 (by decide) (by omega) (fun c68 => absurd c68 (by omega)) (fun c68 => ?_)
          refine lv_iload hx hb dX0_shareByRests_71 (lv_at hl 0 rfl) ?_
          refine lv_iload hx hb dX0_shareByRests_73 (lv_at hl 5 rfl) ?_
          refine n_idiv hx hb dX0_shareByRests_75 (by omega) hq (by omega) ?_
          refine lv_goto (tgt := 80) hx hb dX0_shareByRests_76 (by decide) ?_
          refine x_stS (S' := ov (i + 1) (baR r v n all) S) G h (by omega) ov_step dX0_shareByRests_80 (fun H locs h => ?_)
          refine lv_aload_n hx hb dX0_shareByRests_81 rfl (lv_at hl 1 rfl) ?_
          refine x_getR G h dX0_shareByRests_82 ?_
          refine lv_iload hx hb dX0_shareByRests_85 (lv_at hl 9 rfl) ?_
          refine lv_iload hx hb dX0_shareByRests_87 (lv_at hl 0 rfl) ?_
          refine lv_aload_n hx hb dX0_shareByRests_89 rfl (lv_at hl 1 rfl) ?_
          refine x_getS G h dX0_shareByRests_90 ?_
          refine lv_iload hx hb dX0_shareByRests_93 (lv_at hl 9 rfl) ?_
          refine x_ldS (x := (nI (baR r v n all i))) G h (by omega) (ov_lt (by omega)) dX0_shareByRests_95 ?_
          refine lv_iload hx hb dX0_shareByRests_96 (lv_at hl 5 rfl) ?_
          refine n_imul hx hb dX0_shareByRests_98 ?_
          refine n_isub hx hb dX0_shareByRests_99 ba_mul ?_
          refine n_toe (congrArg nI rm_eq) ?_
          refine x_stR (R' := ov (i + 1) (rmR r v n all) R) G h (by omega) ov_step dX0_shareByRests_100 (fun H locs h => ?_)
          refine lv_iload hx hb dX0_shareByRests_101 (lv_at hl 7 rfl) ?_
          refine lv_aload_n hx hb dX0_shareByRests_103 rfl (lv_at hl 1 rfl) ?_
          refine x_getS G h dX0_shareByRests_104 ?_
          refine lv_iload hx hb dX0_shareByRests_107 (lv_at hl 9 rfl) ?_
          refine x_ldS (x := (nI (baR r v n all i))) G h (by omega) (ov_lt (by omega)) dX0_shareByRests_109 ?_
          refine n_isub hx hb dX0_shareByRests_110 (by have q1 := sumTo_mono (v := baR r v n all) (show i + 1 ≤ c by omega); have q2 : sumTo (baR r v n all) (i + 1) = sumTo (baR r v n all) i + (baR r v n all) i := rfl; omega) ?_
          refine n_toe (show _ = nI (n - sumTo (baR r v n all) (i + 1)) from congrArg nI (Nat.sub_sub _ _ _)) ?_
          refine lv_istore (lv' := [(6, .int (nI (n - sumTo (baR r v n all) (i + 1)))), (9, .int (nI ((v i) * (byx r n)))), (0, .ref (ad 0)), (1, .int (nI r)), (2, .int (nI n)), (3, .int (nI all)), (4, .int (nI (qtx r n all))), (5, .int (nI (byx r n))), (7, .int (nI ab)), (8, .int (nI i))]) hx hb dX0_shareByRests_111 hl (by decide) rfl (fun ls hl => ?_)
          refine lv_aload_n hx hb dX0_shareByRests_113 rfl (lv_at hl 2 rfl) ?_
          refine x_getV G h dX0_shareByRests_114 ?_
          refine lv_iload hx hb dX0_shareByRests_117 (lv_at hl 9 rfl) ?_
          refine x_ldV G h (by omega) dX0_shareByRests_119 ?_
          refine n_if_le (tgt := 133) hx hb dX0_shareByRests_120 (by decide) (by omega) (fun c120 => ?_) (fun c120 => ?_)
          · skip
            refine lv_iinc (v := nI (i + 1)) (lv' := [(8, .int (nI (i + 1))), (6, .int (nI (n - sumTo (baR r v n all) (i + 1)))), (9, .int (nI ((v i) * (byx r n)))), (0, .ref (ad 0)), (1, .int (nI r)), (2, .int (nI n)), (3, .int (nI all)), (4, .int (nI (qtx r n all))), (5, .int (nI (byx r n))), (7, .int (nI ab))]) hx hb dX0_shareByRests_133 hl (k := 9) rfl (inc1 _) (by decide) rfl (fun ls hl => ?_)
            refine lv_goto (tgt := 39) hx hb dX0_shareByRests_136 (by decide) ?_
            exact ih39 (i + 1) ab F (by omega) (by omega) (by rw [cntP_0 c120, hab]) (by rw [orS_0 c120]; exact hF) _ _ h _ (lv_sub hl [3, 4, 5, 6, 7, 8, 1, 9, 0] rfl)
          · skip
            refine lv_aload_n hx hb dX0_shareByRests_123 rfl (lv_at hl 2 rfl) ?_
            refine lv_iload hx hb dX0_shareByRests_124 (lv_at hl 9 rfl) ?_
            refine lv_iload hx hb dX0_shareByRests_126 (lv_at hl 8 rfl) ?_
            refine x_calli G h (mX_putInOrder l D ad cI cB c t v (ov (i + 1) (baR r v n all) S) K (ov (i + 1) (rmR r v n all) R) F i ab (orS v (rmR r v n all) i) (rmR r v n all) (by omega) (by omega) hF (fun p hp => orS_lt (by omega)) (fun j hj => ov_lt (by omega)) hrmb) kX_putInOrder rfl ⟨Nat.le_of_ble_eq_true rfl, Nat.le_of_ble_eq_true rfl, Nat.le_refl _, Nat.le_refl _⟩ hl.1 rfl (Nat.le_of_ble_eq_true rfl) dX0_shareByRests_128 (fun r1 c1 t1 v1 S1 K1 R1 O1 H locs hp h => ?_)
            obtain ⟨rfl, O2, e1, hO1⟩ := hp
            cases e1
            refine lv_istore (lv' := [(7, .int (nI (ab + 1))), (6, .int (nI (n - sumTo (baR r v n all) (i + 1)))), (9, .int (nI ((v i) * (byx r n)))), (0, .ref (ad 0)), (1, .int (nI r)), (2, .int (nI n)), (3, .int (nI all)), (4, .int (nI (qtx r n all))), (5, .int (nI (byx r n))), (8, .int (nI i))]) hx hb dX0_shareByRests_131 hl (by decide) rfl (fun ls hl => ?_)
            refine lv_iinc (v := nI (i + 1)) (lv' := [(8, .int (nI (i + 1))), (7, .int (nI (ab + 1))), (6, .int (nI (n - sumTo (baR r v n all) (i + 1)))), (9, .int (nI ((v i) * (byx r n)))), (0, .ref (ad 0)), (1, .int (nI r)), (2, .int (nI n)), (3, .int (nI all)), (4, .int (nI (qtx r n all))), (5, .int (nI (byx r n)))]) hx hb dX0_shareByRests_133 hl (k := 9) rfl (inc1 _) (by decide) rfl (fun ls hl => ?_)
            refine lv_goto (tgt := 39) hx hb dX0_shareByRests_136 (by decide) ?_
            exact ih39 (i + 1) (ab + 1) O1 (by omega) (by omega) (by rw [cntP_1 c120, hab]) (by rw [orS_1 c120, ← hab]; exact hO1) _ _ h _ (lv_sub hl [4, 5, 6, 7, 8, 9, 2, 1, 0] rfl)
    exact L39 _ 0 0 O (Nat.lt_succ_self _) (Nat.zero_le _) rfl (fun p h => absurd h (Nat.not_lt_zero _)) _ _ h _ (lv_sub hl [4, 5, 6, 7, 8, 3, 2, 1, 0] rfl)
  have J16 :  ∀ (H : Heap) (locs : List Loc), HX D A ad cI cB s.heap c t v S K R O H locs → ∀ (ls : Array Slot), lv_has ls 10 [(0, .ref (ad 0)), (1, .int (nI r)), (2, .int (nI n)), (3, .int (nI all))] → W p l e (rmm 1 23) s m args below meth cd H locs 0 0 Q (F0 m 16 ls [.int (nI (qtx r n all))]) := by
    intro   H locs h ls hl
    refine lv_istore (lv' := [(4, .int (nI (qtx r n all))), (0, .ref (ad 0)), (1, .int (nI r)), (2, .int (nI n)), (3, .int (nI all))]) hx hb dX0_shareByRests_16 hl (by decide) rfl (fun ls hl => ?_)
    refine lv_iload_n hx hb dX0_shareByRests_18 rfl (lv_at hl 2 rfl) ?_
    refine lv_iconst (v := (nI 5)) hx hb dX0_shareByRests_19 (by decide) ?_
    refine n_icmp_ne (tgt := 27) hx hb dX0_shareByRests_20 (by decide) (by omega) (by omega) (fun c20 => ?_) (fun c20 => ?_)
    · skip
      refine lv_iconst (v := (nI 1)) hx hb dX0_shareByRests_27 (by decide) ?_
      refine n_toe (show nI 1 = nI (byx r n) from congrArg nI (by unfold byx; split <;> first | rfl | omega)) ?_
      exact J28   _ _ h _ (lv_sub hl [1, 2, 3, 4, 0] rfl)
    · skip
      refine lv_iload_n hx hb dX0_shareByRests_23 rfl (lv_at hl 3 rfl) ?_
      refine lv_goto (tgt := 28) hx hb dX0_shareByRests_24 (by decide) ?_
      refine n_toe (show nI n = nI (byx r n) from congrArg nI (by unfold byx; split <;> first | rfl | omega)) ?_
      exact J28   _ _ h _ (lv_sub hl [1, 2, 3, 4, 0] rfl)
  refine lv_iload_n hx hb dX0_shareByRests_0 rfl (lv_at hl 1 rfl) ?_
  refine lv_iconst (v := (nI 5)) hx hb dX0_shareByRests_1 (by decide) ?_
  refine n_icmp_ne (tgt := 9) hx hb dX0_shareByRests_2 (by decide) (by omega) (by omega) (fun c2 => ?_) (fun c2 => ?_)
  · skip
    refine lv_iload_n hx hb dX0_shareByRests_9 rfl (lv_at hl 3 rfl) ?_
    refine lv_iload_n hx hb dX0_shareByRests_10 rfl (lv_at hl 2 rfl) ?_
    refine lv_iconst (v := (nI 1)) hx hb dX0_shareByRests_11 (by decide) ?_
    refine n_iadd hx hb dX0_shareByRests_12 ?_
    refine n_idiv hx hb dX0_shareByRests_13 (by omega) (by omega) (by omega) ?_
    refine lv_iconst (v := (nI 1)) hx hb dX0_shareByRests_14 (by decide) ?_
    refine n_iadd hx hb dX0_shareByRests_15 ?_
    refine n_toe (show nI ((all / (n + 1)) + 1) = nI (qtx r n all) from congrArg nI (by unfold qtx; split <;> first | rfl | omega)) ?_
    exact J16   _ _ h _ (lv_sub hl [0, 1, 2, 3] rfl)
  · skip
    refine lv_iload_n hx hb dX0_shareByRests_5 rfl (lv_at hl 3 rfl) ?_
    refine lv_goto (tgt := 16) hx hb dX0_shareByRests_6 (by decide) ?_
    refine n_toe (show nI all = nI (qtx r n all) from congrArg nI (by unfold qtx; split <;> first | rfl | omega)) ?_
    exact J16   _ _ h _ (lv_sub hl [0, 1, 2, 3] rfl)
set_option maxHeartbeats 4000000 in
theorem mX_shareOut (l : Launch) (D : va_G) (ad : Nat → Nat) (cI cB : ClassId) (c t : Nat) (v : Nat → Nat) (S K R O : Nat → Int32) (r n : Nat) (hr7 : r < 7) (hc : c ≤ 6) (hv : ∀ j, j < c → v j ≤ 2999) (hn : n ≤ 31) : Mv l D (tyX cI cB) (WX ad cI cB) yX0_shareOut cX0_shareOut 5 none 4 109 (ad 0) [.int (nI r), .int (nI n)] (c, t, v, S, K, R, O) (fun u => ∃ S' R' O', u = (c, t, v, S', K, R', O') ∧ ∀ j, j < c → S' j = nI (sh r v c n j)) := by
  refine Mv.of (by decide) (Nat.le_of_ble_eq_true rfl) rfl ?_
  intro p e s m args below meth cd A ls Q G h hl hret
  have G : GX D A cI cB p s m args cd cX0_shareOut 5 := G
  have h : HX D A ad cI cB s.heap c t v S K R O s.heap [] := h
  have hl : lv_has ls 5 [(0, .ref (ad 0)), (1, .int (nI r)), (2, .int (nI n))] := hl
  have hx := G.1.1
  have hb := G.1.2.1
  have hal : sumTo v c ≤ 17994 := by have := sumTo_le hv; have h2 : c * 2999 ≤ 6 * 2999 := Nat.mul_le_mul_right _ hc; omega
  refine lv_aload_n hx hb dX0_shareOut_0 rfl (lv_at hl 0 rfl) ?_
  refine x_callr (x := (nI (sumTo v c))) G h (mX_allVotes l D ad cI cB c t v S K R O hc) kX_allVotes rfl ⟨Nat.le_of_ble_eq_true rfl, Nat.le_of_ble_eq_true rfl, Nat.le_refl _, Nat.le_refl _⟩ hl.1 rfl (Nat.le_of_ble_eq_true rfl) dX0_shareOut_1 (fun H locs h => ?_)
  refine lv_istore_n (lv' := [(3, .int (nI (sumTo v c))), (0, .ref (ad 0)), (1, .int (nI r)), (2, .int (nI n))]) hx hb dX0_shareOut_4 rfl hl (by decide) rfl (fun ls hl => ?_)
  refine lv_iload_n hx hb dX0_shareOut_5 rfl (lv_at hl 0 rfl) ?_
  refine n_if_ne (tgt := 38) hx hb dX0_shareOut_6 (by decide) (by omega) (fun c6 => ?_) (fun c6 => ?_)
  · skip
    refine lv_iload_n hx hb dX0_shareOut_38 rfl (lv_at hl 2 rfl) ?_
    refine lv_iconst (v := (nI 5)) hx hb dX0_shareOut_39 (by decide) ?_
    refine n_icmp_ge (tgt := 53) hx hb dX0_shareOut_40 (by decide) (by omega) (by omega) (fun c40 => ?_) (fun c40 => ?_)
    · skip
      refine lv_aload_n hx hb dX0_shareOut_53 rfl (lv_at hl 1 rfl) ?_
      refine lv_iload_n hx hb dX0_shareOut_54 rfl (lv_at hl 2 rfl) ?_
      refine lv_iload_n hx hb dX0_shareOut_55 rfl (lv_at hl 3 rfl) ?_
      refine lv_iload_n hx hb dX0_shareOut_56 rfl (lv_at hl 0 rfl) ?_
      refine x_callv G h (mX_shareByRests l D ad cI cB c t v S K R O r n (sumTo v c) hr7 hc hv hn rfl (by omega)) kX_shareByRests rfl ⟨Nat.le_of_ble_eq_true rfl, Nat.le_of_ble_eq_true rfl, Nat.le_refl _, Nat.le_refl _⟩ hl.1 rfl (Nat.le_of_ble_eq_true rfl) dX0_shareOut_57 (fun c1 t1 v1 S1 K1 R1 O1 H locs hp h => ?_)
      obtain ⟨S2, R2, O2, e1, hS2⟩ := hp
      cases e1
      exact hret _ _ _ _ (c, t, v, S1, K, R1, O1) h ⟨_, _, _, rfl, fun j hj => by rw [hS2 j hj]; unfold sh; rw [if_neg (by omega), if_neg (by omega)]⟩ dX0_shareOut_60
    · skip
      refine lv_aload_n hx hb dX0_shareOut_43 rfl (lv_at hl 1 rfl) ?_
      refine lv_iload_n hx hb dX0_shareOut_44 rfl (lv_at hl 2 rfl) ?_
      refine lv_iload_n hx hb dX0_shareOut_45 rfl (lv_at hl 3 rfl) ?_
      refine lv_iload_n hx hb dX0_shareOut_46 rfl (lv_at hl 0 rfl) ?_
      refine x_callv G h (mX_shareByQuotients l D ad cI cB c t v S K R O r n (sumTo v c) hr7 hc hv hn rfl (by omega)) kX_shareByQuotients rfl ⟨Nat.le_of_ble_eq_true rfl, Nat.le_of_ble_eq_true rfl, Nat.le_refl _, Nat.le_refl _⟩ hl.1 rfl (Nat.le_of_ble_eq_true rfl) dX0_shareOut_47 (fun c1 t1 v1 S1 K1 R1 O1 H locs hp h => ?_)
      obtain ⟨S2, e1, hS2⟩ := hp
      cases e1
      refine lv_goto (tgt := 60) hx hb dX0_shareOut_50 (by decide) ?_
      exact hret _ _ _ _ (c, t, v, S1, K, R, O) h ⟨_, _, _, rfl, fun j hj => by rw [hS2 j hj]; unfold sh; rw [if_neg (by omega), if_pos (by omega)]⟩ dX0_shareOut_60
  · skip
    refine lv_iconst (v := (nI 0)) hx hb dX0_shareOut_9 (by decide) ?_
    refine lv_istore (lv' := [(4, .int (nI 0)), (3, .int (nI (sumTo v c))), (0, .ref (ad 0)), (1, .int (nI r)), (2, .int (nI n))]) hx hb dX0_shareOut_10 hl (by decide) rfl (fun ls hl => ?_)
    have h := x_cS (ov_0 (s := fun _ => 0)).symm h
    have L12 : ∀ (n12 : Nat) (i : Nat), c - i < n12 → (i ≤ c) → ∀ (H : Heap) (locs : List Loc), HX D A ad cI cB s.heap c t v (ov i (fun _ => 0) S) K R O H locs → ∀ (ls : Array Slot), lv_has ls 5 [(0, .ref (ad 0)), (1, .int (nI r)), (2, .int (nI n)), (3, .int (nI (sumTo v c))), (4, .int (nI i))] → W p l e (rmm 4 109) s m args below meth cd H locs 0 0 Q (F0 m 12 ls []) := by
      intro n12
      induction n12 with
      | zero =>
        intro i hm
        exact absurd hm (Nat.not_lt_zero _)
      | succ n12 ih12 =>
        intro i hm12 hi H locs h ls hl
        refine lv_iload hx hb dX0_shareOut_12 (lv_at hl 4 rfl) ?_
        refine lv_aload_n hx hb dX0_shareOut_14 rfl (lv_at hl 0 rfl) ?_
        refine x_getC G h dX0_shareOut_15 ?_
        refine n_icmp_ge (tgt := 35) hx hb dX0_shareOut_18 (by decide) (by omega) (by omega) (fun c18 => ?_) (fun c18 => ?_)
        · skip
          refine lv_goto (tgt := 60) hx hb dX0_shareOut_35 (by decide) ?_
          exact hret _ _ _ _ (c, t, v, ov i (fun _ => 0) S, K, R, O) h ⟨_, _, _, rfl, fun j hj => by rw [ov_lt (show j < i by omega)]; unfold sh; rw [if_pos c6]⟩ dX0_shareOut_60
        · skip
          refine lv_aload_n hx hb dX0_shareOut_21 rfl (lv_at hl 0 rfl) ?_
          refine x_getS G h dX0_shareOut_22 ?_
          refine lv_iload hx hb dX0_shareOut_25 (lv_at hl 4 rfl) ?_
          refine lv_iconst (v := (nI 0)) hx hb dX0_shareOut_27 (by decide) ?_
          refine x_stS (S' := ov (i + 1) (fun _ => 0) S) G h (by omega) (ov_step (s := fun _ => 0)) dX0_shareOut_28 (fun H locs h => ?_)
          refine lv_iinc (v := nI (i + 1)) (lv' := [(4, .int (nI (i + 1))), (0, .ref (ad 0)), (1, .int (nI r)), (2, .int (nI n)), (3, .int (nI (sumTo v c)))]) hx hb dX0_shareOut_29 hl (k := 4) rfl (inc1 _) (by decide) rfl (fun ls hl => ?_)
          refine lv_goto (tgt := 12) hx hb dX0_shareOut_32 (by decide) ?_
          exact ih12 (i + 1) (by omega) (by omega) _ _ h _ (lv_sub hl [1, 2, 3, 4, 0] rfl)
    exact L12 _ 0 (Nat.lt_succ_self _) (by omega) _ _ h _ (lv_sub hl [2, 3, 4, 1, 0] rfl)
set_option maxHeartbeats 4000000 in
theorem mX_keepShares (l : Launch) (D : va_G) (ad : Nat → Nat) (cI cB : ClassId) (c t : Nat) (v : Nat → Nat) (S K R O : Nat → Int32) (hc : c ≤ 6) : Mv l D (tyX cI cB) (WX ad cI cB) yX0_keepShares cX0_keepShares 2 none 0 0 (ad 0) [] (c, t, v, S, K, R, O) (fun u => ∃ K', u = (c, t, v, S, K', R, O) ∧ ∀ j, j < c → K' j = S j) := by
  refine Mv.of (by decide) (Nat.le_of_ble_eq_true rfl) rfl ?_
  intro p e s m args below meth cd A ls Q G h hl hret
  have G : GX D A cI cB p s m args cd cX0_keepShares 2 := G
  have h : HX D A ad cI cB s.heap c t v S K R O s.heap [] := h
  have hl : lv_has ls 2 [(0, .ref (ad 0))] := hl
  have hx := G.1.1
  have hb := G.1.2.1
  refine lv_iconst (v := (nI 0)) hx hb dX0_keepShares_0 (by decide) ?_
  refine lv_istore_n (lv' := [(1, .int (nI 0)), (0, .ref (ad 0))]) hx hb dX0_keepShares_1 rfl hl (by decide) rfl (fun ls hl => ?_)
  have L2 : ∀ (n2 : Nat) (i : Nat) (F : Nat → Int32), c - i < n2 → (i ≤ c) → (∀ j, j < i → F j = S j) → ∀ (H : Heap) (locs : List Loc), HX D A ad cI cB s.heap c t v S F R O H locs → ∀ (ls : Array Slot), lv_has ls 2 [(0, .ref (ad 0)), (1, .int (nI i))] → W p l e (rmm 0 0) s m args below meth cd H locs 0 0 Q (F0 m 2 ls []) := by
    intro n2
    induction n2 with
    | zero =>
      intro i F hm
      exact absurd hm (Nat.not_lt_zero _)
    | succ n2 ih2 =>
      intro i F hm2 hi hF H locs h ls hl
      refine lv_iload_n hx hb dX0_keepShares_2 rfl (lv_at hl 1 rfl) ?_
      refine lv_aload_n hx hb dX0_keepShares_3 rfl (lv_at hl 0 rfl) ?_
      refine x_getC G h dX0_keepShares_4 ?_
      refine n_icmp_ge (tgt := 28) hx hb dX0_keepShares_7 (by decide) (by omega) (by omega) (fun c7 => ?_) (fun c7 => ?_)
      · skip
        exact hret _ _ _ _ (c, t, v, S, F, R, O) h ⟨_, rfl, fun j hj => hF j (by omega)⟩ dX0_keepShares_28
      · skip
        refine lv_aload_n hx hb dX0_keepShares_10 rfl (lv_at hl 0 rfl) ?_
        refine x_getK G h dX0_keepShares_11 ?_
        refine lv_iload_n hx hb dX0_keepShares_14 rfl (lv_at hl 1 rfl) ?_
        refine lv_aload_n hx hb dX0_keepShares_15 rfl (lv_at hl 0 rfl) ?_
        refine x_getS G h dX0_keepShares_16 ?_
        refine lv_iload_n hx hb dX0_keepShares_19 rfl (lv_at hl 1 rfl) ?_
        refine x_ldS (x := (S i)) G h (by omega) rfl dX0_keepShares_20 ?_
        refine x_stK (K' := upd F i (S i)) G h (by omega) rfl dX0_keepShares_21 (fun H locs h => ?_)
        refine lv_iinc (v := nI (i + 1)) (lv' := [(1, .int (nI (i + 1))), (0, .ref (ad 0))]) hx hb dX0_keepShares_22 hl (k := 1) rfl (inc1 _) (by decide) rfl (fun ls hl => ?_)
        refine lv_goto (tgt := 2) hx hb dX0_keepShares_25 (by decide) ?_
        exact ih2 (i + 1) (upd F i (S i)) (by omega) (by omega) (upd_keep hF) _ _ h _ (lv_sub hl [1, 0] rfl)
  exact L2 _ 0 K (Nat.lt_succ_self _) (Nat.zero_le _) (fun j h => absurd h (Nat.not_lt_zero _)) _ _ h _ (lv_sub hl [1, 0] rfl)
set_option maxHeartbeats 4000000 in
theorem mX_shareWith (l : Launch) (D : va_G) (ad : Nat → Nat) (cI cB : ClassId) (c t : Nat) (v : Nat → Nat) (S K R O : Nat → Int32) (r i x : Nat) (hr7 : r < 7) (hc : c ≤ 6) (hi : i < c) (hv : ∀ j, j < c → v j ≤ 2999) (hx2 : x ≤ 2999) (ht : t ≤ 30) : Mi l D (tyX cI cB) (WX ad cI cB) yX0_shareWith cX0_shareWith 5 (some .int) 5 133 (ad 0) [.int (nI r), .int (nI i), .int (nI x)] (c, t, v, S, K, R, O) (fun z u => z = nI (sh r (va_up v i x) c t i) ∧ ∃ S' R' O', u = (c, t, v, S', K, R', O')) := by
  refine Mi.of (by decide) (Nat.le_of_ble_eq_true rfl) ?_
  intro p e s m args below meth cd A ls Q G hrt h hl hret
  have G : GX D A cI cB p s m args cd cX0_shareWith 5 := G
  have h : HX D A ad cI cB s.heap c t v S K R O s.heap [] := h
  have hl : lv_has ls 5 [(0, .ref (ad 0)), (1, .int (nI r)), (2, .int (nI i)), (3, .int (nI x))] := hl
  have hx := G.1.1
  have hb := G.1.2.1
  have hv2 : ∀ j, j < c → va_up v i x j ≤ 2999 := up_le hv hx2
  refine lv_aload_n hx hb dX0_shareWith_0 rfl (lv_at hl 0 rfl) ?_
  refine x_getV G h dX0_shareWith_1 ?_
  refine lv_iload_n hx hb dX0_shareWith_4 rfl (lv_at hl 2 rfl) ?_
  refine x_ldV G h (by omega) dX0_shareWith_5 ?_
  refine lv_istore (lv' := [(4, .int (nI (v i))), (0, .ref (ad 0)), (1, .int (nI r)), (2, .int (nI i)), (3, .int (nI x))]) hx hb dX0_shareWith_6 hl (by decide) rfl (fun ls hl => ?_)
  refine lv_aload_n hx hb dX0_shareWith_8 rfl (lv_at hl 1 rfl) ?_
  refine x_getV G h dX0_shareWith_9 ?_
  refine lv_iload_n hx hb dX0_shareWith_12 rfl (lv_at hl 3 rfl) ?_
  refine lv_iload_n hx hb dX0_shareWith_13 rfl (lv_at hl 4 rfl) ?_
  refine x_stV G h (by omega) dX0_shareWith_14 (fun H locs h => ?_)
  refine lv_aload_n hx hb dX0_shareWith_15 rfl (lv_at hl 1 rfl) ?_
  refine lv_iload_n hx hb dX0_shareWith_16 rfl (lv_at hl 2 rfl) ?_
  refine lv_aload_n hx hb dX0_shareWith_17 rfl (lv_at hl 1 rfl) ?_
  refine x_getT G h dX0_shareWith_18 ?_
  refine x_callv G h (mX_shareOut l D ad cI cB c t (va_up v i x) S K R O r t (by omega) hc hv2 (by omega)) kX_shareOut rfl ⟨Nat.le_of_ble_eq_true rfl, Nat.le_of_ble_eq_true rfl, Nat.le_refl _, Nat.le_refl _⟩ hl.1 rfl (Nat.le_of_ble_eq_true rfl) dX0_shareWith_21 (fun c1 t1 v1 Sa1 K1 Ra1 Oa1 H locs hp h => ?_)
  obtain ⟨S2, R2, O2, e1, hSa1⟩ := hp
  cases e1
  refine lv_aload_n hx hb dX0_shareWith_24 rfl (lv_at hl 1 rfl) ?_
  refine x_getV G h dX0_shareWith_25 ?_
  refine lv_iload_n hx hb dX0_shareWith_28 rfl (lv_at hl 3 rfl) ?_
  refine lv_iload hx hb dX0_shareWith_29 (lv_at hl 0 rfl) ?_
  refine x_stV G h (by omega) dX0_shareWith_31 (fun H locs h => ?_)
  have h := x_cV (up_back (v := v) (i := i) (x := x)) h
  refine lv_aload_n hx hb dX0_shareWith_32 rfl (lv_at hl 1 rfl) ?_
  refine x_getS G h dX0_shareWith_33 ?_
  refine lv_iload_n hx hb dX0_shareWith_36 rfl (lv_at hl 3 rfl) ?_
  refine x_ldS (x := (nI (sh r (va_up v i x) c t i))) G h (by omega) (hSa1 i hi) dX0_shareWith_37 ?_
  exact hret _ _ _ _ _ (c, t, v, Sa1, K, Ra1, Oa1) _ h ⟨rfl, _, _, _, rfl⟩ hrt rfl dX0_shareWith_38
end
section
set_option maxRecDepth 100000
/-! ===== sums of shares; what the public methods answer ===== -/
theorem upQ_sum {r : Nat} {v : Nat → Nat} {c : Nat} (hp : 0 < sumTo v c) : ∀ {k : Nat} {s : Nat → Nat}, sumTo (upQ r v c k s) c = sumTo s c + k
  | 0, s => rfl
  | k + 1, s => by
    obtain ⟨w, h1, h2, h3⟩ := fnS_some (r := r) (v := v) (s := s) hp
    have h4 := sumTo_up (v := s) (x := s w + 1) h2
    simp only [upQ, h1]
    rw [upQ_sum hp]
    omega
theorem dnQ_sum {r : Nat} {v : Nat → Nat} {c : Nat} : ∀ {k : Nat} {s : Nat → Nat}, k ≤ sumTo s c → sumTo (dnQ r v c k s) c = sumTo s c - k
  | 0, s, _ => rfl
  | k + 1, s, h => by
    obtain ⟨w, h1, h2, h3⟩ := ltS_some (r := r) (v := v) (s := s) (c := c) (by omega)
    have h4 := sumTo_up (v := s) (x := s w - 1) h2
    simp only [dnQ, h1]
    rw [dnQ_sum (by omega)]
    omega
theorem shQ_sum {r : Nat} {v : Nat → Nat} {c n all : Nat} (hp : 0 < sumTo v c) : sumTo (shQ r v c n all) c = n := by
  unfold shQ
  rw [upQ_sum hp, dnQ_sum (by omega)]
  omega
theorem dsR_sum {o : Nat → Nat} {able c : Nat} (ho : ∀ p, p < able → o p < c) : ∀ {l a : Nat} {s : Nat → Nat}, a < able → sumTo (dsR o able l a s) c = sumTo s c + l
  | 0, a, s, _ => rfl
  | l + 1, a, s, h => by
    have h4 := sumTo_up (v := s) (x := s (o a) + 1) (ho a h)
    rw [dsR, dsR_sum ho (by split <;> omega)]
    omega
theorem shR_sum {r : Nat} {v : Nat → Nat} {c n all : Nat} (ha : all = sumTo v c) (hp : 0 < all) : sumTo (shR r v c n all) c = n := by
  unfold shR
  have h := ba_tot (r := r) (n := n) ha hp
  rw [dsR_sum (fun p h => orS_lt h) (cntP_pos (by omega))]
  omega
theorem sh_sum {r : Nat} {v : Nat → Nat} {c n : Nat} (hp : 0 < sumTo v c) : sumTo (sh r v c n) c = n := by
  unfold sh
  rw [if_neg (by omega)]
  split
  · exact shQ_sum hp
  · exact shR_sum rfl hp
theorem sh_le {r : Nat} {v : Nat → Nat} {c n j : Nat} (hj : j < c) : sh r v c n j ≤ n := by
  by_cases hp : 0 < sumTo v c
  · have h := sumTo_at (v := sh r v c n) hj
    rw [sh_sum hp] at h
    exact h
  · unfold sh
    rw [if_pos (by omega)]
    exact Nat.zero_le _
theorem sh_tot {r : Nat} {v : Nat → Nat} {c n : Nat} : sumTo (sh r v c n) c ≤ n := by
  by_cases hp : 0 < sumTo v c
  · rw [sh_sum hp]; exact Nat.le_refl _
  · have : sumTo (sh r v c n) c = 0 := by
      unfold sh
      rw [if_pos (by omega)]
      clear hp
      induction c with
      | zero => rfl
      | succ c ih => exact ih
    omega
/-- an answer and the new state -/
abbrev SP : Type := Int32 × Nat × Nat × (Nat → Nat)
def anyTo (P : Nat → Bool) : Nat → Bool
  | 0 => false
  | i + 1 => anyTo P i || P i
def cntB (P : Nat → Bool) : Nat → Nat
  | 0 => 0
  | i + 1 => cntB P i + (if P i then 1 else 0)
/-- the first of f places from k on where P holds -/
def lst (P : Nat → Bool) : Nat → Nat → Option Nat
  | 0, _ => none
  | f + 1, k => if P k then some k else lst P f (k + 1)
def oN (b : Option Nat) : Int32 := match b with
  | none => -4
  | some n => nI n
def bxM (w : Nat → Nat) : Nat → Nat
  | 0 => 0
  | i + 1 => if w (bxM w i) < w i then i else bxM w i
def sp_list (c t : Nat) (v : Nat → Nat) (a : Int32) : SP := match ix 1000 a with
  | none => (-1, c, t, v)
  | some x => if c = 6 then (-2, c, t, v) else (nI c, c + 1, t, va_up v c x)
def sp_vote (c t : Nat) (v : Nat → Nat) (a b : Int32) : SP := match ix c a with
  | none => (-1, c, t, v)
  | some i => match ix 1000 b with
    | none => (-1, c, t, v)
    | some x => (nI (v i), c, t, va_up v i x)
def sp_join (c t : Nat) (v : Nat → Nat) (a b : Int32) : SP := match ix c a with
  | none => (-1, c, t, v)
  | some i => match ix c b with
    | none => (-1, c, t, v)
    | some j => if i = j then (-1, c, t, v) else (nI (if 999 < v i + v j then 999 else v i + v j), c, t, va_up (va_up v i (if 999 < v i + v j then 999 else v i + v j)) j 0)
def sp_seats (c t : Nat) (v : Nat → Nat) (a : Int32) : SP := match ix 31 a with
  | none => (-1, c, t, v)
  | some n => (nI t, c, n, v)
def sp_bar (c t : Nat) (v : Nat → Nat) (a : Int32) : SP := match ix 101 a with
  | none => (-1, c, t, v)
  | some p => (nI (cntP (barV p (sumTo v c) v c) c), c, t, barV p (sumTo v c) v c)
def sp_lists (c t : Nat) (v : Nat → Nat) : SP := (nI c, c, t, v)
def sp_votes (c t : Nat) (v : Nat → Nat) : SP := (nI (sumTo v c), c, t, v)
def sp_share (c t : Nat) (v : Nat → Nat) (a b : Int32) : SP := match ix 7 a with
  | none => (-1, c, t, v)
  | some r => match ix c b with
    | none => (-1, c, t, v)
    | some i => (nI (sh r v c t i), c, t, v)
def sp_next (c t : Nat) (v : Nat → Nat) (a : Int32) : SP := match ix 7 a with
  | none => (-1, c, t, v)
  | some r => if 5 ≤ r then (-1, c, t, v) else if sumTo v c = 0 then (-4, c, t, v) else (oI (fnS r v (sh r v c t) c), c, t, v)
def flP (r : Nat) (v : Nat → Nat) (c n : Nat) : Bool := anyTo (fun i => decide (sh r v c (n + 1) i < sh r v c n i)) c
def sp_fall (c t : Nat) (v : Nat → Nat) (a : Int32) : SP := match ix 7 a with
  | none => (-1, c, t, v)
  | some r => (if r < 5 then -4 else oN (lst (flP r v c) (30 - t) t), c, t, v)
def ouP (s v : Nat → Nat) (t all : Nat) (i : Nat) : Bool := decide (0 < all ∧ (s i * all + all ≤ t * v i ∨ t * v i + all ≤ s i * all))
def sp_outside (c t : Nat) (v : Nat → Nat) (a : Int32) : SP := match ix 7 a with
  | none => (-1, c, t, v)
  | some r => (nI (cntB (ouP (sh r v c t) v t (sumTo v c)) c), c, t, v)
def sp_moved (c t : Nat) (v : Nat → Nat) (a b : Int32) : SP := match ix 7 a with
  | none => (-1, c, t, v)
  | some r => match ix 7 b with
    | none => (-1, c, t, v)
    | some q => (nI (sumTo (fun i => sh q v c t i - sh r v c t i) c), c, t, v)
/-- majority as SeatShares takes it: w holds share + 1, 0 where it is taken -/
def mjX (c given : Nat) : Nat → (Nat → Nat) → Nat → Nat → Nat
  | 0, _, _, many => many
  | f + 1, w, have_, many => if 2 * have_ ≤ given ∧ many < c then mjX c given f (va_up w (bxM w c) 0) (have_ + (w (bxM w c) - 1)) (many + 1) else many
def sp_majority (c t : Nat) (v : Nat → Nat) (a : Int32) : SP := match ix 7 a with
  | none => (-1, c, t, v)
  | some r => (nI (if sumTo (sh r v c t) c = 0 then 0 else mjX c (sumTo (sh r v c t) c) (c + 1) (fun j => sh r v c t j + 1) 0 0), c, t, v)
/-- what a list would get with x votes -/
def shW (r : Nat) (v : Nat → Nat) (c t i x : Nat) : Nat := sh r (va_up v i x) c t i
def sp_missing (c t : Nat) (v : Nat → Nat) (a b : Int32) : SP := match ix 7 a with
  | none => (-1, c, t, v)
  | some r => if 5 ≤ r then (-1, c, t, v) else match ix c b with
    | none => (-1, c, t, v)
    | some i => (oN (lst (fun m => decide (shW r v c t i (v i) < shW r v c t i (v i + m))) 2000 1), c, t, v)
/-- the greatest of k, k - 1 .. where P holds (0 at the end) -/
def gst (P : Nat → Bool) : Nat → Nat
  | 0 => 0
  | k + 1 => if P (k + 1) then k + 1 else gst P k
def sp_spare (c t : Nat) (v : Nat → Nat) (a b : Int32) : SP := match ix 7 a with
  | none => (-1, c, t, v)
  | some r => if 5 ≤ r then (-1, c, t, v) else match ix c b with
    | none => (-1, c, t, v)
    | some i => (nI (gst (fun m => decide (shW r v c t i (v i - m) = shW r v c t i (v i))) (v i)), c, t, v)
end
section
set_option maxRecDepth 100000
def pubX (sp : SP) (z : Int32) (u : XS) : Prop := z = sp.1 ∧ ∃ S' K' R' O', u = (sp.2.1, sp.2.2.1, sp.2.2.2, S', K', R', O')
theorem pubX_i {sp : SP} {z : Int32} {c t : Nat} {v : Nat → Nat} {S K R O : Nat → Int32} (h : sp = (z, c, t, v)) : pubX sp z (c, t, v, S, K, R, O) := by
  subst h
  exact ⟨rfl, _, _, _, _, rfl⟩
def pubY (sp : SP) (z : Int32) (u : YS) : Prop := z = sp.1 ∧ ∃ S' K', u = (sp.2.1, sp.2.2.1, sp.2.2.2, S', K')
theorem pubY_i {sp : SP} {z : Int32} {c t : Nat} {v : Nat → Nat} {S K : Nat → Int32} (h : sp = (z, c, t, v)) : pubY sp z (c, t, v, S, K) := by
  subst h
  exact ⟨rfl, _, _, rfl⟩
theorem ix_dead {n : Nat} {a : Int32} (h0 : ¬ a < 0) (h : a ≤ nI n) (hn : n < 1000 := by decide) : ¬ ix (n + 1) a = none := by
  obtain ⟨i, q⟩ := ix_mem (n := n + 1) (by omega) h0 ((ix_le (by omega)).mp h)
  rw [q]
  simp
theorem barV_0 {p all : Nat} {v : Nat → Nat} : barV p all v 0 = v := by
  funext j
  simp [barV]
theorem barV_at {p all : Nat} {v : Nat → Nat} {i : Nat} : barV p all v i i = v i := by simp [barV]
theorem barV_ge {p all : Nat} {v : Nat → Nat} {i k : Nat} (h : p * all ≤ 100 * v i) : barV p all v i i = barV p all v k i := by
  rw [barV_at]
  unfold barV
  rw [if_neg (by omega)]
theorem barV_lt {p all : Nat} {v : Nat → Nat} {i k : Nat} (hi : i < k) (h : 100 * v i < p * all) : barV p all v k i = 0 := by
  unfold barV
  rw [if_pos ⟨hi, h⟩]
theorem barV_s {p all : Nat} {v : Nat → Nat} {i k : Nat} (hi : i < k) : va_up (barV p all v i) i (barV p all v k i) = barV p all v (i + 1) := by
  funext j
  by_cases hj : j = i
  · subst hj
    simp [va_up, barV, hi]
  · have h2 : (j < i + 1) ↔ (j < i) := by omega
    simp [va_up, barV, hj, h2]
theorem barV_in {p all : Nat} {v : Nat → Nat} {i k : Nat} (hi : i < k) : barV p all v (i + 1) i = barV p all v k i := by simp [barV, hi]
theorem barV_le {p all : Nat} {v : Nat → Nat} {k j : Nat} : barV p all v k j ≤ v j := by
  unfold barV
  split <;> omega
theorem anyTo_s {P : Nat → Bool} {i : Nat} : anyTo P (i + 1) = (anyTo P i || P i) := rfl
theorem cntB_1 {P : Nat → Bool} {i : Nat} (h : P i = true) : cntB P (i + 1) = cntB P i + 1 := by
  show cntB P i + (if P i then 1 else 0) = _
  rw [h]; rfl
theorem cntB_0 {P : Nat → Bool} {i : Nat} (h : P i = false) : cntB P (i + 1) = cntB P i := by
  show cntB P i + (if P i then 1 else 0) = _
  rw [h]; rfl
theorem lst_hit {P : Nat → Bool} {f k : Nat} (hf : 0 < f) (h : P k = true) : lst P f k = some k := by
  obtain ⟨g, rfl⟩ : ∃ g, f = g + 1 := ⟨f - 1, by omega⟩
  rw [lst, h]; rfl
theorem lst_miss {P : Nat → Bool} {f k : Nat} (hf : 0 < f) (h : P k = false) : lst P f k = lst P (f - 1) (k + 1) := by
  obtain ⟨g, rfl⟩ : ∃ g, f = g + 1 := ⟨f - 1, by omega⟩
  rw [lst, h]; rfl
theorem far1 {x e a : Nat} (hx : x < 2 ^ 30) (he : e < 2 ^ 30) (ha : a < 2 ^ 30) : nI x ≤ nI e - nI a ↔ x + a ≤ e := by
  rw [Int32.le_iff_toInt_le, pk_sub_toInt he ha, nI_toInt (by omega)]
  omega
/-- share + 1 as SeatShares holds it; 0 is -1 -/
def pm (w : Nat) : Int32 := nI w - nI 1
theorem pm_1 (x : Nat) : pm (x + 1) = nI x := by
  unfold pm
  rw [pk_sub (by omega)]
  rfl
theorem pm_pos {w : Nat} (h : 0 < w) : pm w = nI (w - 1) := by
  unfold pm
  rw [pk_sub (by omega)]
theorem pm_le {a b : Nat} (ha : a < 2 ^ 30) (hb : b < 2 ^ 30) : pm a ≤ pm b ↔ a ≤ b := by
  unfold pm
  rw [Int32.le_iff_toInt_le, pk_sub_toInt ha (by decide), pk_sub_toInt hb (by decide)]
  omega
theorem pm_put {F : Nat → Int32} {w : Nat → Nat} {c b : Nat} (h : ∀ j, j < c → F j = pm (w j)) : ∀ j, j < c → upd F b (-1) j = pm (va_up w b 0 j) := by
  intro j hj
  by_cases hq : j = b
  · subst hq
    rw [vu_eq]
    simp only [upd, if_true]
    decide
  · rw [vu_ne hq, ← h j hj]
    simp [upd, hq]
theorem bxM_s {w : Nat → Nat} {i : Nat} : bxM w (i + 1) = if w (bxM w i) < w i then i else bxM w i := rfl
theorem bxM_lt {w : Nat → Nat} {c : Nat} : ∀ {i : Nat}, i ≤ c → 0 < c → bxM w i < c
  | 0, _, h => h
  | i + 1, h1, h2 => by
    rw [bxM_s]
    split
    · omega
    · exact bxM_lt (by omega) h2
theorem bxM_max {w : Nat → Nat} : ∀ {i j : Nat}, j < i → w j ≤ w (bxM w i)
  | 0, j, h => by omega
  | i + 1, j, h => by
    rw [bxM_s]
    split
    · rename_i q
      by_cases hj : j = i
      · subst hj; exact Nat.le_refl _
      · have := bxM_max (w := w) (i := i) (j := j) (by omega)
        omega
    · rename_i q
      by_cases hj : j = i
      · subst hj; omega
      · exact bxM_max (by omega)
theorem cntP_ex {v : Nat → Nat} : ∀ {c : Nat}, 0 < cntP v c → ∃ j, j < c ∧ 0 < v j
  | 0, h => by simp [cntP] at h
  | c + 1, h => by
    by_cases hv : 0 < v c
    · exact ⟨c, by omega, hv⟩
    · rw [cntP_s, if_neg hv] at h
      obtain ⟨j, h1, h2⟩ := cntP_ex (c := c) (v := v) h
      exact ⟨j, by omega, h2⟩
theorem bxM_pos {w : Nat → Nat} {c : Nat} (h : 0 < cntP w c) : 0 < w (bxM w c) := by
  obtain ⟨j, h1, h2⟩ := cntP_ex h
  have := bxM_max (w := w) h1
  omega
theorem cntP_congr {v w : Nat → Nat} : ∀ {c : Nat}, (∀ j, j < c → v j = w j) → cntP v c = cntP w c
  | 0, _ => rfl
  | c + 1, h => by
    rw [cntP_s, cntP_s, cntP_congr (c := c) (fun j hj => h j (by omega)), h c (by omega)]
theorem cntP_all {v : Nat → Nat} : ∀ {c : Nat}, (∀ j, j < c → 0 < v j) → cntP v c = c
  | 0, _ => rfl
  | c + 1, h => by
    rw [cntP_s, if_pos (h c (by omega)), cntP_all (c := c) (fun j hj => h j (by omega))]
theorem cntP_up {v : Nat → Nat} {c b : Nat} (hb : b < c) (hv : 0 < v b) : cntP (va_up v b 0) c + 1 = cntP v c := by
  induction c with
  | zero => omega
  | succ c ih =>
    rw [cntP_s, cntP_s]
    by_cases hq : b = c
    · subst hq
      rw [vu_eq, if_neg (by omega), if_pos hv, cntP_congr (v := va_up v b 0) (w := v) (fun j hj => vu_ne (by omega))]
    · rw [vu_ne (fun q => hq q.symm)]
      have := ih (by omega)
      omega
theorem mjX_go {c gv mn hv : Nat} {w : Nat → Nat} (h2 : mn < c) (h1 : 2 * hv ≤ gv) : mjX c gv (c + 1 - mn) w hv mn = mjX c gv (c + 1 - (mn + 1)) (va_up w (bxM w c) 0) (hv + (w (bxM w c) - 1)) (mn + 1) := by
  rw [show c + 1 - mn = (c + 1 - (mn + 1)) + 1 by omega]
  rw [mjX, if_pos ⟨h1, h2⟩]
theorem mjX_stop {c gv f mn hv : Nat} {w : Nat → Nat} (hf : 0 < f) (h : ¬ (2 * hv ≤ gv ∧ mn < c)) : mjX c gv f w hv mn = mn := by
  obtain ⟨g, rfl⟩ : ∃ g, f = g + 1 := ⟨f - 1, by omega⟩
  rw [mjX, if_neg h]
set_option maxHeartbeats 4000000 in
theorem mX_list (l : Launch) (D : va_G) (ad : Nat → Nat) (cI cB : ClassId) (c t : Nat) (v : Nat → Nat) (S K R O : Nat → Int32) (a : Int32) (hc : c ≤ 6) (ht : t ≤ 30) (hv : ∀ j, j < c → v j ≤ 999) : Mi l D (tyX cI cB) (WX ad cI cB) yX0_list cX0_list 2 (some .int) 1 21 (ad 0) [.int a] (c, t, v, S, K, R, O) (pubX (sp_list c t v a)) := by
  refine Mi.of (by decide) (Nat.le_of_ble_eq_true rfl) ?_
  intro p e s m args below meth cd A ls Q G hrt h hl hret
  have G : GX D A cI cB p s m args cd cX0_list 2 := G
  have h : HX D A ad cI cB s.heap c t v S K R O s.heap [] := h
  have hl : lv_has ls 2 [(0, .ref (ad 0)), (1, .int a)] := hl
  have hx := G.1.1
  have hb := G.1.2.1
  have hv3 : ∀ j, j < c → v j ≤ 2999 := fun j hj => by have := hv j hj; omega
  have hal : sumTo v c ≤ 5994 := by have := sumTo_le hv; have h2 : c * 999 ≤ 6 * 999 := Nat.mul_le_mul_right _ hc; omega
  cases ha : ix 1000 a with
  | none =>
    refine lv_aload_n hx hb dX0_list_0 rfl (lv_at hl 0 rfl) ?_
    refine lv_iload_n hx hb dX0_list_1 rfl (lv_at hl 1 rfl) ?_
    refine x_callr (x := nI 1) G h (mX_badVotes1 l D ad cI cB c t v S K R O a ha) kX_badVotes rfl ⟨Nat.le_of_ble_eq_true rfl, Nat.le_of_ble_eq_true rfl, Nat.le_refl _, Nat.le_refl _⟩ hl.1 rfl (Nat.le_of_ble_eq_true rfl) dX0_list_2 (fun H locs h => ?_)
    refine n_if_eq (tgt := 10) hx hb dX0_list_5 (by decide) (by omega) (fun c5 => absurd c5 (by omega)) (fun c5 => ?_)
    refine lv_iconst (v := (-1)) hx hb dX0_list_8 (by decide) ?_
    exact hret _ _ _ _ _ (c, t, v, S, K, R, O) _ h (pubX_i (by simp only [sp_list, ha])) hrt rfl dX0_list_9
  | some xv =>
    obtain ⟨hxv, rfl⟩ := ix_some (by decide) ha
    refine lv_aload_n hx hb dX0_list_0 rfl (lv_at hl 0 rfl) ?_
    refine lv_iload_n hx hb dX0_list_1 rfl (lv_at hl 1 rfl) ?_
    refine x_callr (x := nI 0) G h (mX_badVotes0 l D ad cI cB c t v S K R O xv (by omega)) kX_badVotes rfl ⟨Nat.le_of_ble_eq_true rfl, Nat.le_of_ble_eq_true rfl, Nat.le_refl _, Nat.le_refl _⟩ hl.1 rfl (Nat.le_of_ble_eq_true rfl) dX0_list_2 (fun H locs h => ?_)
    refine n_if_eq (tgt := 10) hx hb dX0_list_5 (by decide) (by omega) (fun c5 => ?_) (fun c5 => absurd c5 (by omega))
    refine lv_aload_n hx hb dX0_list_10 rfl (lv_at hl 0 rfl) ?_
    refine x_getC G h dX0_list_11 ?_
    refine lv_bipush (v := (nI 6)) hx hb dX0_list_14 (by decide) ?_
    refine n_icmp_ne (tgt := 22) hx hb dX0_list_16 (by decide) (by omega) (by omega) (fun c16 => ?_) (fun c16 => ?_)
    · skip
      refine lv_aload_n hx hb dX0_list_22 rfl (lv_at hl 0 rfl) ?_
      refine x_getV G h dX0_list_23 ?_
      refine lv_aload_n hx hb dX0_list_26 rfl (lv_at hl 0 rfl) ?_
      refine x_getC G h dX0_list_27 ?_
      refine lv_iload_n hx hb dX0_list_30 rfl (lv_at hl 1 rfl) ?_
      refine x_stV G h (by omega) dX0_list_31 (fun H locs h => ?_)
      refine lv_aload_n hx hb dX0_list_32 rfl (lv_at hl 0 rfl) ?_
      refine lv_dup hx hb dX0_list_33 rfl ?_
      refine x_getC G h dX0_list_34 ?_
      refine lv_iconst (v := (nI 1)) hx hb dX0_list_37 (by decide) ?_
      refine n_iadd hx hb dX0_list_38 ?_
      refine x_putC G h dX0_list_39 (fun H locs h => ?_)
      refine lv_aload_n hx hb dX0_list_42 rfl (lv_at hl 0 rfl) ?_
      refine x_getC G h dX0_list_43 ?_
      refine lv_iconst (v := (nI 1)) hx hb dX0_list_46 (by decide) ?_
      refine n_isub hx hb dX0_list_47 (by omega) ?_
      exact hret _ _ _ _ _ (c + 1, t, va_up v c xv, S, K, R, O) _ h (pubX_i (by simp only [sp_list, ha, if_neg c16, Nat.add_sub_cancel])) hrt rfl dX0_list_48
    · skip
      refine lv_bipush (v := (-2)) hx hb dX0_list_19 (by decide) ?_
      exact hret _ _ _ _ _ (c, t, v, S, K, R, O) _ h (pubX_i (by simp only [sp_list, ha, if_pos c16])) hrt rfl dX0_list_21
set_option maxHeartbeats 4000000 in
theorem mX_vote (l : Launch) (D : va_G) (ad : Nat → Nat) (cI cB : ClassId) (c t : Nat) (v : Nat → Nat) (S K R O : Nat → Int32) (a b : Int32) (hc : c ≤ 6) (ht : t ≤ 30) (hv : ∀ j, j < c → v j ≤ 999) : Mi l D (tyX cI cB) (WX ad cI cB) yX0_vote cX0_vote 4 (some .int) 1 21 (ad 0) [.int a, .int b] (c, t, v, S, K, R, O) (pubX (sp_vote c t v a b)) := by
  refine Mi.of (by decide) (Nat.le_of_ble_eq_true rfl) ?_
  intro p e s m args below meth cd A ls Q G hrt h hl hret
  have G : GX D A cI cB p s m args cd cX0_vote 4 := G
  have h : HX D A ad cI cB s.heap c t v S K R O s.heap [] := h
  have hl : lv_has ls 4 [(0, .ref (ad 0)), (1, .int a), (2, .int b)] := hl
  have hx := G.1.1
  have hb := G.1.2.1
  have hv3 : ∀ j, j < c → v j ≤ 2999 := fun j hj => by have := hv j hj; omega
  have hal : sumTo v c ≤ 5994 := by have := sumTo_le hv; have h2 : c * 999 ≤ 6 * 999 := Nat.mul_le_mul_right _ hc; omega
  cases ha : ix c a with
  | none =>
    refine lv_aload_n hx hb dX0_vote_0 rfl (lv_at hl 0 rfl) ?_
    refine lv_iload_n hx hb dX0_vote_1 rfl (lv_at hl 1 rfl) ?_
    refine x_callr (x := nI 1) G h (mX_missingList1 l D ad cI cB c t v S K R O a hc ha) kX_missingList rfl ⟨Nat.le_of_ble_eq_true rfl, Nat.le_of_ble_eq_true rfl, Nat.le_refl _, Nat.le_refl _⟩ hl.1 rfl (Nat.le_of_ble_eq_true rfl) dX0_vote_2 (fun H locs h => ?_)
    refine n_if_ne (tgt := 16) hx hb dX0_vote_5 (by decide) (by omega) (fun c5 => ?_) (fun c5 => absurd c5 (by omega))
    refine lv_iconst (v := (-1)) hx hb dX0_vote_16 (by decide) ?_
    exact hret _ _ _ _ _ (c, t, v, S, K, R, O) _ h (pubX_i (by simp only [sp_vote, ha])) hrt rfl dX0_vote_17
  | some i =>
    obtain ⟨hi, rfl⟩ := ix_some (by omega) ha
    cases hb2 : ix 1000 b with
    | none =>
      refine lv_aload_n hx hb dX0_vote_0 rfl (lv_at hl 0 rfl) ?_
      refine lv_iload_n hx hb dX0_vote_1 rfl (lv_at hl 1 rfl) ?_
      refine x_callr (x := nI 0) G h (mX_missingList0 l D ad cI cB c t v S K R O i hc (by omega)) kX_missingList rfl ⟨Nat.le_of_ble_eq_true rfl, Nat.le_of_ble_eq_true rfl, Nat.le_refl _, Nat.le_refl _⟩ hl.1 rfl (Nat.le_of_ble_eq_true rfl) dX0_vote_2 (fun H locs h => ?_)
      refine n_if_ne (tgt := 16) hx hb dX0_vote_5 (by decide) (by omega) (fun c5 => absurd c5 (by omega)) (fun c5 => ?_)
      refine lv_aload_n hx hb dX0_vote_8 rfl (lv_at hl 0 rfl) ?_
      refine lv_iload_n hx hb dX0_vote_9 rfl (lv_at hl 2 rfl) ?_
      refine x_callr (x := nI 1) G h (mX_badVotes1 l D ad cI cB c t v S K R O b hb2) kX_badVotes rfl ⟨Nat.le_of_ble_eq_true rfl, Nat.le_of_ble_eq_true rfl, Nat.le_refl _, Nat.le_refl _⟩ hl.1 rfl (Nat.le_of_ble_eq_true rfl) dX0_vote_10 (fun H locs h => ?_)
      refine n_if_eq (tgt := 18) hx hb dX0_vote_13 (by decide) (by omega) (fun c13 => absurd c13 (by omega)) (fun c13 => ?_)
      refine lv_iconst (v := (-1)) hx hb dX0_vote_16 (by decide) ?_
      exact hret _ _ _ _ _ (c, t, v, S, K, R, O) _ h (pubX_i (by simp only [sp_vote, ha, hb2])) hrt rfl dX0_vote_17
    | some xv =>
      obtain ⟨hxv, rfl⟩ := ix_some (by decide) hb2
      refine lv_aload_n hx hb dX0_vote_0 rfl (lv_at hl 0 rfl) ?_
      refine lv_iload_n hx hb dX0_vote_1 rfl (lv_at hl 1 rfl) ?_
      refine x_callr (x := nI 0) G h (mX_missingList0 l D ad cI cB c t v S K R O i hc (by omega)) kX_missingList rfl ⟨Nat.le_of_ble_eq_true rfl, Nat.le_of_ble_eq_true rfl, Nat.le_refl _, Nat.le_refl _⟩ hl.1 rfl (Nat.le_of_ble_eq_true rfl) dX0_vote_2 (fun H locs h => ?_)
      refine n_if_ne (tgt := 16) hx hb dX0_vote_5 (by decide) (by omega) (fun c5 => absurd c5 (by omega)) (fun c5 => ?_)
      refine lv_aload_n hx hb dX0_vote_8 rfl (lv_at hl 0 rfl) ?_
      refine lv_iload_n hx hb dX0_vote_9 rfl (lv_at hl 2 rfl) ?_
      refine x_callr (x := nI 0) G h (mX_badVotes0 l D ad cI cB c t v S K R O xv (by omega)) kX_badVotes rfl ⟨Nat.le_of_ble_eq_true rfl, Nat.le_of_ble_eq_true rfl, Nat.le_refl _, Nat.le_refl _⟩ hl.1 rfl (Nat.le_of_ble_eq_true rfl) dX0_vote_10 (fun H locs h => ?_)
      refine n_if_eq (tgt := 18) hx hb dX0_vote_13 (by decide) (by omega) (fun c13 => ?_) (fun c13 => absurd c13 (by omega))
      refine lv_aload_n hx hb dX0_vote_18 rfl (lv_at hl 0 rfl) ?_
      refine x_getV G h dX0_vote_19 ?_
      refine lv_iload_n hx hb dX0_vote_22 rfl (lv_at hl 1 rfl) ?_
      refine x_ldV G h (by omega) dX0_vote_23 ?_
      refine lv_istore_n (lv' := [(3, .int (nI (v i))), (0, .ref (ad 0)), (1, .int (nI i)), (2, .int (nI xv))]) hx hb dX0_vote_24 rfl hl (by decide) rfl (fun ls hl => ?_)
      refine lv_aload_n hx hb dX0_vote_25 rfl (lv_at hl 1 rfl) ?_
      refine x_getV G h dX0_vote_26 ?_
      refine lv_iload_n hx hb dX0_vote_29 rfl (lv_at hl 2 rfl) ?_
      refine lv_iload_n hx hb dX0_vote_30 rfl (lv_at hl 3 rfl) ?_
      refine x_stV G h (by omega) dX0_vote_31 (fun H locs h => ?_)
      refine lv_iload_n hx hb dX0_vote_32 rfl (lv_at hl 0 rfl) ?_
      exact hret _ _ _ _ _ (c, t, va_up v i xv, S, K, R, O) _ h (pubX_i (by simp only [sp_vote, ha, hb2])) hrt rfl dX0_vote_33
set_option maxHeartbeats 4000000 in
theorem mX_join (l : Launch) (D : va_G) (ad : Nat → Nat) (cI cB : ClassId) (c t : Nat) (v : Nat → Nat) (S K R O : Nat → Int32) (a b : Int32) (hc : c ≤ 6) (ht : t ≤ 30) (hv : ∀ j, j < c → v j ≤ 999) : Mi l D (tyX cI cB) (WX ad cI cB) yX0_join cX0_join 4 (some .int) 1 21 (ad 0) [.int a, .int b] (c, t, v, S, K, R, O) (pubX (sp_join c t v a b)) := by
  refine Mi.of (by decide) (Nat.le_of_ble_eq_true rfl) ?_
  intro p e s m args below meth cd A ls Q G hrt h hl hret
  have G : GX D A cI cB p s m args cd cX0_join 4 := G
  have h : HX D A ad cI cB s.heap c t v S K R O s.heap [] := h
  have hl : lv_has ls 4 [(0, .ref (ad 0)), (1, .int a), (2, .int b)] := hl
  have hx := G.1.1
  have hb := G.1.2.1
  have hv3 : ∀ j, j < c → v j ≤ 2999 := fun j hj => by have := hv j hj; omega
  have hal : sumTo v c ≤ 5994 := by have := sumTo_le hv; have h2 : c * 999 ≤ 6 * 999 := Nat.mul_le_mul_right _ hc; omega
  cases ha : ix c a with
  | none =>
    refine lv_aload_n hx hb dX0_join_0 rfl (lv_at hl 0 rfl) ?_
    refine lv_iload_n hx hb dX0_join_1 rfl (lv_at hl 1 rfl) ?_
    refine x_callr (x := nI 1) G h (mX_missingList1 l D ad cI cB c t v S K R O a hc ha) kX_missingList rfl ⟨Nat.le_of_ble_eq_true rfl, Nat.le_of_ble_eq_true rfl, Nat.le_refl _, Nat.le_refl _⟩ hl.1 rfl (Nat.le_of_ble_eq_true rfl) dX0_join_2 (fun H locs h => ?_)
    refine n_if_ne (tgt := 21) hx hb dX0_join_5 (by decide) (by omega) (fun c5 => ?_) (fun c5 => absurd c5 (by omega))
    refine lv_iconst (v := (-1)) hx hb dX0_join_21 (by decide) ?_
    exact hret _ _ _ _ _ (c, t, v, S, K, R, O) _ h (pubX_i (by simp only [sp_join, ha])) hrt rfl dX0_join_22
  | some i =>
    obtain ⟨hi, rfl⟩ := ix_some (by omega) ha
    cases hb2 : ix c b with
    | none =>
      refine lv_aload_n hx hb dX0_join_0 rfl (lv_at hl 0 rfl) ?_
      refine lv_iload_n hx hb dX0_join_1 rfl (lv_at hl 1 rfl) ?_
      refine x_callr (x := nI 0) G h (mX_missingList0 l D ad cI cB c t v S K R O i hc (by omega)) kX_missingList rfl ⟨Nat.le_of_ble_eq_true rfl, Nat.le_of_ble_eq_true rfl, Nat.le_refl _, Nat.le_refl _⟩ hl.1 rfl (Nat.le_of_ble_eq_true rfl) dX0_join_2 (fun H locs h => ?_)
      refine n_if_ne (tgt := 21) hx hb dX0_join_5 (by decide) (by omega) (fun c5 => absurd c5 (by omega)) (fun c5 => ?_)
      refine lv_aload_n hx hb dX0_join_8 rfl (lv_at hl 0 rfl) ?_
      refine lv_iload_n hx hb dX0_join_9 rfl (lv_at hl 2 rfl) ?_
      refine x_callr (x := nI 1) G h (mX_missingList1 l D ad cI cB c t v S K R O b hc hb2) kX_missingList rfl ⟨Nat.le_of_ble_eq_true rfl, Nat.le_of_ble_eq_true rfl, Nat.le_refl _, Nat.le_refl _⟩ hl.1 rfl (Nat.le_of_ble_eq_true rfl) dX0_join_10 (fun H locs h => ?_)
      refine n_if_ne (tgt := 21) hx hb dX0_join_13 (by decide) (by omega) (fun c13 => ?_) (fun c13 => absurd c13 (by omega))
      refine lv_iconst (v := (-1)) hx hb dX0_join_21 (by decide) ?_
      exact hret _ _ _ _ _ (c, t, v, S, K, R, O) _ h (pubX_i (by simp only [sp_join, ha, hb2])) hrt rfl dX0_join_22
    | some j =>
      obtain ⟨hj, rfl⟩ := ix_some (by omega) hb2
      refine lv_aload_n hx hb dX0_join_0 rfl (lv_at hl 0 rfl) ?_
      refine lv_iload_n hx hb dX0_join_1 rfl (lv_at hl 1 rfl) ?_
      refine x_callr (x := nI 0) G h (mX_missingList0 l D ad cI cB c t v S K R O i hc (by omega)) kX_missingList rfl ⟨Nat.le_of_ble_eq_true rfl, Nat.le_of_ble_eq_true rfl, Nat.le_refl _, Nat.le_refl _⟩ hl.1 rfl (Nat.le_of_ble_eq_true rfl) dX0_join_2 (fun H locs h => ?_)
      refine n_if_ne (tgt := 21) hx hb dX0_join_5 (by decide) (by omega) (fun c5 => absurd c5 (by omega)) (fun c5 => ?_)
      refine lv_aload_n hx hb dX0_join_8 rfl (lv_at hl 0 rfl) ?_
      refine lv_iload_n hx hb dX0_join_9 rfl (lv_at hl 2 rfl) ?_
      refine x_callr (x := nI 0) G h (mX_missingList0 l D ad cI cB c t v S K R O j hc (by omega)) kX_missingList rfl ⟨Nat.le_of_ble_eq_true rfl, Nat.le_of_ble_eq_true rfl, Nat.le_refl _, Nat.le_refl _⟩ hl.1 rfl (Nat.le_of_ble_eq_true rfl) dX0_join_10 (fun H locs h => ?_)
      refine n_if_ne (tgt := 21) hx hb dX0_join_13 (by decide) (by omega) (fun c13 => absurd c13 (by omega)) (fun c13 => ?_)
      refine lv_iload_n hx hb dX0_join_16 rfl (lv_at hl 1 rfl) ?_
      refine lv_iload_n hx hb dX0_join_17 rfl (lv_at hl 2 rfl) ?_
      refine n_icmp_ne (tgt := 23) hx hb dX0_join_18 (by decide) (by omega) (by omega) (fun c18 => ?_) (fun c18 => ?_)
      · skip
        refine lv_aload_n hx hb dX0_join_23 rfl (lv_at hl 0 rfl) ?_
        refine x_getV G h dX0_join_24 ?_
        refine lv_iload_n hx hb dX0_join_27 rfl (lv_at hl 1 rfl) ?_
        refine x_ldV G h (by omega) dX0_join_28 ?_
        refine lv_aload_n hx hb dX0_join_29 rfl (lv_at hl 0 rfl) ?_
        refine x_getV G h dX0_join_30 ?_
        refine lv_iload_n hx hb dX0_join_33 rfl (lv_at hl 2 rfl) ?_
        refine x_ldV G h (by omega) dX0_join_34 ?_
        refine n_iadd hx hb dX0_join_35 ?_
        refine lv_istore_n (lv' := [(3, .int (nI ((v i) + (v j)))), (0, .ref (ad 0)), (1, .int (nI i)), (2, .int (nI j))]) hx hb dX0_join_36 rfl hl (by decide) rfl (fun ls hl => ?_)
        refine lv_aload_n hx hb dX0_join_37 rfl (lv_at hl 1 rfl) ?_
        refine x_getV G h dX0_join_38 ?_
        refine lv_iload_n hx hb dX0_join_41 rfl (lv_at hl 2 rfl) ?_
        refine lv_iload_n hx hb dX0_join_42 rfl (lv_at hl 0 rfl) ?_
        refine lv_sipush (v := (nI 999)) hx hb dX0_join_43 (by decide) ?_
        refine n_icmp_le (tgt := 55) hx hb dX0_join_46 (by decide) (by have q1 := hv i hi; have q2 := hv j hj; omega) (by omega) (fun c46 => ?_) (fun c46 => ?_)
        · skip
          refine lv_iload_n hx hb dX0_join_55 rfl (lv_at hl 0 rfl) ?_
          refine x_stV G h (by omega) dX0_join_56 (fun H locs h => ?_)
          refine lv_aload_n hx hb dX0_join_57 rfl (lv_at hl 1 rfl) ?_
          refine x_getV G h dX0_join_58 ?_
          refine lv_iload_n hx hb dX0_join_61 rfl (lv_at hl 3 rfl) ?_
          refine lv_iconst (v := (nI 0)) hx hb dX0_join_62 (by decide) ?_
          refine x_stV G h (by omega) dX0_join_63 (fun H locs h => ?_)
          refine lv_aload_n hx hb dX0_join_64 rfl (lv_at hl 1 rfl) ?_
          refine x_getV G h dX0_join_65 ?_
          refine lv_iload_n hx hb dX0_join_68 rfl (lv_at hl 2 rfl) ?_
          refine x_ldV G h (by omega) dX0_join_69 ?_
          exact hret _ _ _ _ _ (c, t, va_up (va_up v i ((v i) + (v j))) j 0, S, K, R, O) _ h (pubX_i (by rw [vu_ne c18, vu_eq]; simp only [sp_join, ha, hb2, if_neg c18, if_neg (show ¬ 999 < v i + v j by omega)])) hrt rfl dX0_join_70
        · skip
          refine lv_sipush (v := (nI 999)) hx hb dX0_join_49 (by decide) ?_
          refine lv_goto (tgt := 56) hx hb dX0_join_52 (by decide) ?_
          refine x_stV G h (by omega) dX0_join_56 (fun H locs h => ?_)
          refine lv_aload_n hx hb dX0_join_57 rfl (lv_at hl 1 rfl) ?_
          refine x_getV G h dX0_join_58 ?_
          refine lv_iload_n hx hb dX0_join_61 rfl (lv_at hl 3 rfl) ?_
          refine lv_iconst (v := (nI 0)) hx hb dX0_join_62 (by decide) ?_
          refine x_stV G h (by omega) dX0_join_63 (fun H locs h => ?_)
          refine lv_aload_n hx hb dX0_join_64 rfl (lv_at hl 1 rfl) ?_
          refine x_getV G h dX0_join_65 ?_
          refine lv_iload_n hx hb dX0_join_68 rfl (lv_at hl 2 rfl) ?_
          refine x_ldV G h (by omega) dX0_join_69 ?_
          exact hret _ _ _ _ _ (c, t, va_up (va_up v i 999) j 0, S, K, R, O) _ h (pubX_i (by rw [vu_ne c18, vu_eq]; simp only [sp_join, ha, hb2, if_neg c18, if_pos c46])) hrt rfl dX0_join_70
      · skip
        refine lv_iconst (v := (-1)) hx hb dX0_join_21 (by decide) ?_
        exact hret _ _ _ _ _ (c, t, v, S, K, R, O) _ h (pubX_i (by simp only [sp_join, ha, hb2, if_pos c18])) hrt rfl dX0_join_22
set_option maxHeartbeats 4000000 in
theorem mX_seats (l : Launch) (D : va_G) (ad : Nat → Nat) (cI cB : ClassId) (c t : Nat) (v : Nat → Nat) (S K R O : Nat → Int32) (a : Int32) (hc : c ≤ 6) (ht : t ≤ 30) (hv : ∀ j, j < c → v j ≤ 999) : Mi l D (tyX cI cB) (WX ad cI cB) yX0_seats cX0_seats 3 (some .int) 0 0 (ad 0) [.int a] (c, t, v, S, K, R, O) (pubX (sp_seats c t v a)) := by
  refine Mi.of (by decide) (Nat.le_of_ble_eq_true rfl) ?_
  intro p e s m args below meth cd A ls Q G hrt h hl hret
  have G : GX D A cI cB p s m args cd cX0_seats 3 := G
  have h : HX D A ad cI cB s.heap c t v S K R O s.heap [] := h
  have hl : lv_has ls 3 [(0, .ref (ad 0)), (1, .int a)] := hl
  have hx := G.1.1
  have hb := G.1.2.1
  have hv3 : ∀ j, j < c → v j ≤ 2999 := fun j hj => by have := hv j hj; omega
  have hal : sumTo v c ≤ 5994 := by have := sumTo_le hv; have h2 : c * 999 ≤ 6 * 999 := Nat.mul_le_mul_right _ hc; omega
  cases ha : ix 31 a with
  | none =>
    refine lv_iload_n hx hb dX0_seats_0 rfl (lv_at hl 1 rfl) ?_
    refine lv_if_lt (tgt := 10) hx hb dX0_seats_1 (by decide) (fun c1 => ?_) (fun c1 => ?_)
    · skip
      refine lv_iconst (v := (-1)) hx hb dX0_seats_10 (by decide) ?_
      exact hret _ _ _ _ _ (c, t, v, S, K, R, O) _ h (pubX_i (by simp only [sp_seats, ha])) hrt rfl dX0_seats_11
    · skip
      refine lv_iload_n hx hb dX0_seats_4 rfl (lv_at hl 1 rfl) ?_
      refine lv_bipush (v := (nI 30)) hx hb dX0_seats_5 (by decide) ?_
      refine lv_icmp_le (tgt := 12) hx hb dX0_seats_7 (by decide) (fun c7 => absurd ha (ix_dead c1 c7)) (fun c7 => ?_)
      refine lv_iconst (v := (-1)) hx hb dX0_seats_10 (by decide) ?_
      exact hret _ _ _ _ _ (c, t, v, S, K, R, O) _ h (pubX_i (by simp only [sp_seats, ha])) hrt rfl dX0_seats_11
  | some n =>
    obtain ⟨hn, rfl⟩ := ix_some (by decide) ha
    refine lv_iload_n hx hb dX0_seats_0 rfl (lv_at hl 1 rfl) ?_
    refine lv_if_lt (tgt := 10) hx hb dX0_seats_1 (by decide) (fun c1 => absurd c1 (nI_pos (by omega))) (fun c1 => ?_)
    refine lv_iload_n hx hb dX0_seats_4 rfl (lv_at hl 1 rfl) ?_
    refine lv_bipush (v := (nI 30)) hx hb dX0_seats_5 (by decide) ?_
    refine n_icmp_le (tgt := 12) hx hb dX0_seats_7 (by decide) (by omega) (by omega) (fun c7 => ?_) (fun c7 => absurd c7 (by omega))
    refine lv_aload_n hx hb dX0_seats_12 rfl (lv_at hl 0 rfl) ?_
    refine x_getT G h dX0_seats_13 ?_
    refine lv_istore_n (lv' := [(2, .int (nI t)), (0, .ref (ad 0)), (1, .int (nI n))]) hx hb dX0_seats_16 rfl hl (by decide) rfl (fun ls hl => ?_)
    refine lv_aload_n hx hb dX0_seats_17 rfl (lv_at hl 1 rfl) ?_
    refine lv_iload_n hx hb dX0_seats_18 rfl (lv_at hl 2 rfl) ?_
    refine x_putT G h dX0_seats_19 (fun H locs h => ?_)
    refine lv_iload_n hx hb dX0_seats_22 rfl (lv_at hl 0 rfl) ?_
    exact hret _ _ _ _ _ (c, n, v, S, K, R, O) _ h (pubX_i (by simp only [sp_seats, ha])) hrt rfl dX0_seats_23
set_option maxHeartbeats 4000000 in
theorem mX_lists (l : Launch) (D : va_G) (ad : Nat → Nat) (cI cB : ClassId) (c t : Nat) (v : Nat → Nat) (S K R O : Nat → Int32) (hc : c ≤ 6) (ht : t ≤ 30) (hv : ∀ j, j < c → v j ≤ 999) : Mi l D (tyX cI cB) (WX ad cI cB) yX0_lists cX0_lists 1 (some .int) 0 0 (ad 0) [] (c, t, v, S, K, R, O) (pubX (sp_lists c t v)) := by
  refine Mi.of (by decide) (Nat.le_of_ble_eq_true rfl) ?_
  intro p e s m args below meth cd A ls Q G hrt h hl hret
  have G : GX D A cI cB p s m args cd cX0_lists 1 := G
  have h : HX D A ad cI cB s.heap c t v S K R O s.heap [] := h
  have hl : lv_has ls 1 [(0, .ref (ad 0))] := hl
  have hx := G.1.1
  have hb := G.1.2.1
  have hv3 : ∀ j, j < c → v j ≤ 2999 := fun j hj => by have := hv j hj; omega
  have hal : sumTo v c ≤ 5994 := by have := sumTo_le hv; have h2 : c * 999 ≤ 6 * 999 := Nat.mul_le_mul_right _ hc; omega
  refine lv_aload_n hx hb dX0_lists_0 rfl (lv_at hl 0 rfl) ?_
  refine x_getC G h dX0_lists_1 ?_
  exact hret _ _ _ _ _ (c, t, v, S, K, R, O) _ h (pubX_i (by rfl)) hrt rfl dX0_lists_4
set_option maxHeartbeats 4000000 in
theorem mX_votes (l : Launch) (D : va_G) (ad : Nat → Nat) (cI cB : ClassId) (c t : Nat) (v : Nat → Nat) (S K R O : Nat → Int32) (hc : c ≤ 6) (ht : t ≤ 30) (hv : ∀ j, j < c → v j ≤ 999) : Mi l D (tyX cI cB) (WX ad cI cB) yX0_votes cX0_votes 1 (some .int) 1 22 (ad 0) [] (c, t, v, S, K, R, O) (pubX (sp_votes c t v)) := by
  refine Mi.of (by decide) (Nat.le_of_ble_eq_true rfl) ?_
  intro p e s m args below meth cd A ls Q G hrt h hl hret
  have G : GX D A cI cB p s m args cd cX0_votes 1 := G
  have h : HX D A ad cI cB s.heap c t v S K R O s.heap [] := h
  have hl : lv_has ls 1 [(0, .ref (ad 0))] := hl
  have hx := G.1.1
  have hb := G.1.2.1
  have hv3 : ∀ j, j < c → v j ≤ 2999 := fun j hj => by have := hv j hj; omega
  have hal : sumTo v c ≤ 5994 := by have := sumTo_le hv; have h2 : c * 999 ≤ 6 * 999 := Nat.mul_le_mul_right _ hc; omega
  refine lv_aload_n hx hb dX0_votes_0 rfl (lv_at hl 0 rfl) ?_
  refine x_callr (x := (nI (sumTo v c))) G h (mX_allVotes l D ad cI cB c t v S K R O hc) kX_allVotes rfl ⟨Nat.le_of_ble_eq_true rfl, Nat.le_of_ble_eq_true rfl, Nat.le_refl _, Nat.le_refl _⟩ hl.1 rfl (Nat.le_of_ble_eq_true rfl) dX0_votes_1 (fun H locs h => ?_)
  exact hret _ _ _ _ _ (c, t, v, S, K, R, O) _ h (pubX_i (by rfl)) hrt rfl dX0_votes_4
set_option maxHeartbeats 4000000 in
theorem mX_bar (l : Launch) (D : va_G) (ad : Nat → Nat) (cI cB : ClassId) (c t : Nat) (v : Nat → Nat) (S K R O : Nat → Int32) (a : Int32) (hc : c ≤ 6) (ht : t ≤ 30) (hv : ∀ j, j < c → v j ≤ 999) : Mi l D (tyX cI cB) (WX ad cI cB) yX0_bar cX0_bar 5 (some .int) 1 22 (ad 0) [.int a] (c, t, v, S, K, R, O) (pubX (sp_bar c t v a)) := by
  refine Mi.of (by decide) (Nat.le_of_ble_eq_true rfl) ?_
  intro p e s m args below meth cd A ls Q G hrt h hl hret
  have G : GX D A cI cB p s m args cd cX0_bar 5 := G
  have h : HX D A ad cI cB s.heap c t v S K R O s.heap [] := h
  have hl : lv_has ls 5 [(0, .ref (ad 0)), (1, .int a)] := hl
  have hx := G.1.1
  have hb := G.1.2.1
  have hv3 : ∀ j, j < c → v j ≤ 2999 := fun j hj => by have := hv j hj; omega
  have hal : sumTo v c ≤ 5994 := by have := sumTo_le hv; have h2 : c * 999 ≤ 6 * 999 := Nat.mul_le_mul_right _ hc; omega
  cases ha : ix 101 a with
  | none =>
    refine lv_iload_n hx hb dX0_bar_0 rfl (lv_at hl 1 rfl) ?_
    refine lv_if_lt (tgt := 10) hx hb dX0_bar_1 (by decide) (fun c1 => ?_) (fun c1 => ?_)
    · skip
      refine lv_iconst (v := (-1)) hx hb dX0_bar_10 (by decide) ?_
      exact hret _ _ _ _ _ (c, t, v, S, K, R, O) _ h (pubX_i (by simp only [sp_bar, ha])) hrt rfl dX0_bar_11
    · skip
      refine lv_iload_n hx hb dX0_bar_4 rfl (lv_at hl 1 rfl) ?_
      refine lv_bipush (v := (nI 100)) hx hb dX0_bar_5 (by decide) ?_
      refine lv_icmp_le (tgt := 12) hx hb dX0_bar_7 (by decide) (fun c7 => absurd ha (ix_dead c1 c7)) (fun c7 => ?_)
      refine lv_iconst (v := (-1)) hx hb dX0_bar_10 (by decide) ?_
      exact hret _ _ _ _ _ (c, t, v, S, K, R, O) _ h (pubX_i (by simp only [sp_bar, ha])) hrt rfl dX0_bar_11
  | some pp =>
    obtain ⟨hpp, rfl⟩ := ix_some (by decide) ha
    refine lv_iload_n hx hb dX0_bar_0 rfl (lv_at hl 1 rfl) ?_
    refine lv_if_lt (tgt := 10) hx hb dX0_bar_1 (by decide) (fun c1 => absurd c1 (nI_pos (by omega))) (fun c1 => ?_)
    refine lv_iload_n hx hb dX0_bar_4 rfl (lv_at hl 1 rfl) ?_
    refine lv_bipush (v := (nI 100)) hx hb dX0_bar_5 (by decide) ?_
    refine n_icmp_le (tgt := 12) hx hb dX0_bar_7 (by decide) (by omega) (by omega) (fun c7 => ?_) (fun c7 => absurd c7 (by omega))
    have b1 := Nat.mul_le_mul (show pp ≤ 100 by omega) hal
    refine lv_aload_n hx hb dX0_bar_12 rfl (lv_at hl 0 rfl) ?_
    refine x_callr (x := (nI (sumTo v c))) G h (mX_allVotes l D ad cI cB c t v S K R O hc) kX_allVotes rfl ⟨Nat.le_of_ble_eq_true rfl, Nat.le_of_ble_eq_true rfl, Nat.le_refl _, Nat.le_refl _⟩ hl.1 rfl (Nat.le_of_ble_eq_true rfl) dX0_bar_13 (fun H locs h => ?_)
    refine lv_istore_n (lv' := [(2, .int (nI (sumTo v c))), (0, .ref (ad 0)), (1, .int (nI pp))]) hx hb dX0_bar_16 rfl hl (by decide) rfl (fun ls hl => ?_)
    refine lv_iconst (v := (nI 0)) hx hb dX0_bar_17 (by decide) ?_
    refine lv_istore_n (lv' := [(3, .int (nI 0)), (2, .int (nI (sumTo v c))), (0, .ref (ad 0)), (1, .int (nI pp))]) hx hb dX0_bar_18 rfl hl (by decide) rfl (fun ls hl => ?_)
    refine lv_iconst (v := (nI 0)) hx hb dX0_bar_19 (by decide) ?_
    refine lv_istore (lv' := [(4, .int (nI 0)), (3, .int (nI 0)), (2, .int (nI (sumTo v c))), (0, .ref (ad 0)), (1, .int (nI pp))]) hx hb dX0_bar_20 hl (by decide) rfl (fun ls hl => ?_)
    have h := x_cV (barV_0 (p := pp) (all := sumTo v c) (v := v)).symm h
    have L22 : ∀ (n22 : Nat) (i : Nat) (lf : Nat), c - i < n22 → (i ≤ c) → (lf = cntP (barV pp (sumTo v c) v c) i) → ∀ (H : Heap) (locs : List Loc), HX D A ad cI cB s.heap c t (barV pp (sumTo v c) v i) S K R O H locs → ∀ (ls : Array Slot), lv_has ls 5 [(0, .ref (ad 0)), (1, .int (nI pp)), (2, .int (nI (sumTo v c))), (3, .int (nI lf)), (4, .int (nI i))] → W p l e (rmm 1 22) s m args below meth cd H locs 0 0 Q (F0 m 22 ls []) := by
      intro n22
      induction n22 with
      | zero =>
        intro i lf hm
        exact absurd hm (Nat.not_lt_zero _)
      | succ n22 ih22 =>
        intro i lf hm22 hi hlf H locs h ls hl
        refine lv_iload hx hb dX0_bar_22 (lv_at hl 4 rfl) ?_
        refine lv_aload_n hx hb dX0_bar_24 rfl (lv_at hl 0 rfl) ?_
        refine x_getC G h dX0_bar_25 ?_
        refine n_icmp_ge (tgt := 89) hx hb dX0_bar_28 (by decide) (by omega) (by omega) (fun c28 => ?_) (fun c28 => ?_)
        · skip
          refine lv_iload_n hx hb dX0_bar_89 rfl (lv_at hl 3 rfl) ?_
          exact hret _ _ _ _ _ (c, t, barV pp (sumTo v c) v i, S, K, R, O) _ h (pubX_i (by rw [hlf, show i = c by omega]; simp only [sp_bar, ha])) hrt rfl dX0_bar_90
        · skip
          refine lv_aload_n hx hb dX0_bar_31 rfl (lv_at hl 0 rfl) ?_
          refine x_getV G h dX0_bar_32 ?_
          refine lv_iload hx hb dX0_bar_35 (lv_at hl 4 rfl) ?_
          refine lv_bipush (v := (nI 100)) hx hb dX0_bar_37 (by decide) ?_
          refine lv_aload_n hx hb dX0_bar_39 rfl (lv_at hl 0 rfl) ?_
          refine x_getV G h dX0_bar_40 ?_
          refine lv_iload hx hb dX0_bar_43 (lv_at hl 4 rfl) ?_
          refine x_ldV G h (by omega) dX0_bar_45 ?_
          refine n_toe (congrArg nI barV_at) ?_
          refine n_imul hx hb dX0_bar_46 ?_
          refine lv_iload_n hx hb dX0_bar_47 rfl (lv_at hl 1 rfl) ?_
          refine lv_iload_n hx hb dX0_bar_48 rfl (lv_at hl 2 rfl) ?_
          refine n_imul hx hb dX0_bar_49 ?_
          refine n_icmp_ge (tgt := 57) hx hb dX0_bar_50 (by decide) (by have q1 := hv i (by omega); omega) (by omega) (fun c50 => ?_) (fun c50 => ?_)
          · skip
            refine lv_aload_n hx hb dX0_bar_57 rfl (lv_at hl 0 rfl) ?_
            refine x_getV G h dX0_bar_58 ?_
            refine lv_iload hx hb dX0_bar_61 (lv_at hl 4 rfl) ?_
            refine x_ldV G h (by omega) dX0_bar_63 ?_
            refine n_toe (show nI (barV pp (sumTo v c) v i i) = nI (barV pp (sumTo v c) v c i) from congrArg nI (barV_ge c50)) ?_
            refine x_stV G h (by omega) dX0_bar_64 (fun H locs h => ?_)
            have h := x_cV (barV_s (p := pp) (all := sumTo v c) (v := v) (show i < c by omega)) h
            refine lv_aload_n hx hb dX0_bar_65 rfl (lv_at hl 0 rfl) ?_
            refine x_getV G h dX0_bar_66 ?_
            refine lv_iload hx hb dX0_bar_69 (lv_at hl 4 rfl) ?_
            refine x_ldV G h (by omega) dX0_bar_71 ?_
            refine n_toe (congrArg nI (barV_in (show i < c by omega))) ?_
            refine n_if_le (tgt := 81) hx hb dX0_bar_72 (by decide) (by have q1 := hv i (by omega); have q2 := barV_le (p := pp) (all := sumTo v c) (v := v) (k := c) (j := i); omega) (fun c72 => ?_) (fun c72 => ?_)
            · skip
              refine lv_iload_n hx hb dX0_bar_81 rfl (lv_at hl 3 rfl) ?_
              refine lv_istore_n (lv' := [(3, .int (nI lf)), (0, .ref (ad 0)), (1, .int (nI pp)), (2, .int (nI (sumTo v c))), (4, .int (nI i))]) hx hb dX0_bar_82 rfl hl (by decide) rfl (fun ls hl => ?_)
              refine lv_iinc (v := nI (i + 1)) (lv' := [(4, .int (nI (i + 1))), (3, .int (nI lf)), (0, .ref (ad 0)), (1, .int (nI pp)), (2, .int (nI (sumTo v c)))]) hx hb dX0_bar_83 hl (k := 4) rfl (inc1 _) (by decide) rfl (fun ls hl => ?_)
              refine lv_goto (tgt := 22) hx hb dX0_bar_86 (by decide) ?_
              exact ih22 (i + 1) lf (by omega) (by omega) (by rw [cntP_0 c72, hlf]) _ _ h _ (lv_sub hl [2, 3, 4, 1, 0] rfl)
            · skip
              refine lv_iload_n hx hb dX0_bar_75 rfl (lv_at hl 3 rfl) ?_
              refine lv_iconst (v := (nI 1)) hx hb dX0_bar_76 (by decide) ?_
              refine n_iadd hx hb dX0_bar_77 ?_
              refine lv_goto (tgt := 82) hx hb dX0_bar_78 (by decide) ?_
              refine lv_istore_n (lv' := [(3, .int (nI (lf + 1))), (0, .ref (ad 0)), (1, .int (nI pp)), (2, .int (nI (sumTo v c))), (4, .int (nI i))]) hx hb dX0_bar_82 rfl hl (by decide) rfl (fun ls hl => ?_)
              refine lv_iinc (v := nI (i + 1)) (lv' := [(4, .int (nI (i + 1))), (3, .int (nI (lf + 1))), (0, .ref (ad 0)), (1, .int (nI pp)), (2, .int (nI (sumTo v c)))]) hx hb dX0_bar_83 hl (k := 4) rfl (inc1 _) (by decide) rfl (fun ls hl => ?_)
              refine lv_goto (tgt := 22) hx hb dX0_bar_86 (by decide) ?_
              exact ih22 (i + 1) (lf + 1) (by omega) (by omega) (by rw [cntP_1 c72, hlf]) _ _ h _ (lv_sub hl [2, 3, 4, 1, 0] rfl)
          · skip
            refine lv_iconst (v := (nI 0)) hx hb dX0_bar_53 (by decide) ?_
            refine lv_goto (tgt := 64) hx hb dX0_bar_54 (by decide) ?_
            refine n_toe (show nI 0 = nI (barV pp (sumTo v c) v c i) from congrArg nI (barV_lt (by omega) c50).symm) ?_
            refine x_stV G h (by omega) dX0_bar_64 (fun H locs h => ?_)
            have h := x_cV (barV_s (p := pp) (all := sumTo v c) (v := v) (show i < c by omega)) h
            refine lv_aload_n hx hb dX0_bar_65 rfl (lv_at hl 0 rfl) ?_
            refine x_getV G h dX0_bar_66 ?_
            refine lv_iload hx hb dX0_bar_69 (lv_at hl 4 rfl) ?_
            refine x_ldV G h (by omega) dX0_bar_71 ?_
            refine n_toe (congrArg nI (barV_in (show i < c by omega))) ?_
            refine n_if_le (tgt := 81) hx hb dX0_bar_72 (by decide) (by have q1 := hv i (by omega); have q2 := barV_le (p := pp) (all := sumTo v c) (v := v) (k := c) (j := i); omega) (fun c72 => ?_) (fun c72 => ?_)
            · skip
              refine lv_iload_n hx hb dX0_bar_81 rfl (lv_at hl 3 rfl) ?_
              refine lv_istore_n (lv' := [(3, .int (nI lf)), (0, .ref (ad 0)), (1, .int (nI pp)), (2, .int (nI (sumTo v c))), (4, .int (nI i))]) hx hb dX0_bar_82 rfl hl (by decide) rfl (fun ls hl => ?_)
              refine lv_iinc (v := nI (i + 1)) (lv' := [(4, .int (nI (i + 1))), (3, .int (nI lf)), (0, .ref (ad 0)), (1, .int (nI pp)), (2, .int (nI (sumTo v c)))]) hx hb dX0_bar_83 hl (k := 4) rfl (inc1 _) (by decide) rfl (fun ls hl => ?_)
              refine lv_goto (tgt := 22) hx hb dX0_bar_86 (by decide) ?_
              exact ih22 (i + 1) lf (by omega) (by omega) (by rw [cntP_0 c72, hlf]) _ _ h _ (lv_sub hl [2, 3, 4, 1, 0] rfl)
            · skip
              refine lv_iload_n hx hb dX0_bar_75 rfl (lv_at hl 3 rfl) ?_
              refine lv_iconst (v := (nI 1)) hx hb dX0_bar_76 (by decide) ?_
              refine n_iadd hx hb dX0_bar_77 ?_
              refine lv_goto (tgt := 82) hx hb dX0_bar_78 (by decide) ?_
              refine lv_istore_n (lv' := [(3, .int (nI (lf + 1))), (0, .ref (ad 0)), (1, .int (nI pp)), (2, .int (nI (sumTo v c))), (4, .int (nI i))]) hx hb dX0_bar_82 rfl hl (by decide) rfl (fun ls hl => ?_)
              refine lv_iinc (v := nI (i + 1)) (lv' := [(4, .int (nI (i + 1))), (3, .int (nI (lf + 1))), (0, .ref (ad 0)), (1, .int (nI pp)), (2, .int (nI (sumTo v c)))]) hx hb dX0_bar_83 hl (k := 4) rfl (inc1 _) (by decide) rfl (fun ls hl => ?_)
              refine lv_goto (tgt := 22) hx hb dX0_bar_86 (by decide) ?_
              exact ih22 (i + 1) (lf + 1) (by omega) (by omega) (by rw [cntP_1 c72, hlf]) _ _ h _ (lv_sub hl [2, 3, 4, 1, 0] rfl)
    exact L22 _ 0 0 (Nat.lt_succ_self _) (Nat.zero_le _) rfl _ _ h _ (lv_sub hl [3, 4, 2, 1, 0] rfl)
set_option maxHeartbeats 4000000 in
theorem mX_share (l : Launch) (D : va_G) (ad : Nat → Nat) (cI cB : ClassId) (c t : Nat) (v : Nat → Nat) (S K R O : Nat → Int32) (a b : Int32) (hc : c ≤ 6) (ht : t ≤ 30) (hv : ∀ j, j < c → v j ≤ 999) : Mi l D (tyX cI cB) (WX ad cI cB) yX0_share cX0_share 3 (some .int) 5 133 (ad 0) [.int a, .int b] (c, t, v, S, K, R, O) (pubX (sp_share c t v a b)) := by
  refine Mi.of (by decide) (Nat.le_of_ble_eq_true rfl) ?_
  intro p e s m args below meth cd A ls Q G hrt h hl hret
  have G : GX D A cI cB p s m args cd cX0_share 3 := G
  have h : HX D A ad cI cB s.heap c t v S K R O s.heap [] := h
  have hl : lv_has ls 3 [(0, .ref (ad 0)), (1, .int a), (2, .int b)] := hl
  have hx := G.1.1
  have hb := G.1.2.1
  have hv3 : ∀ j, j < c → v j ≤ 2999 := fun j hj => by have := hv j hj; omega
  have hal : sumTo v c ≤ 5994 := by have := sumTo_le hv; have h2 : c * 999 ≤ 6 * 999 := Nat.mul_le_mul_right _ hc; omega
  cases ha : ix 7 a with
  | none =>
    refine lv_aload_n hx hb dX0_share_0 rfl (lv_at hl 0 rfl) ?_
    refine lv_iload_n hx hb dX0_share_1 rfl (lv_at hl 1 rfl) ?_
    refine x_callr (x := nI 1) G h (mX_badRule1 l D ad cI cB c t v S K R O a ha) kX_badRule rfl ⟨Nat.le_of_ble_eq_true rfl, Nat.le_of_ble_eq_true rfl, Nat.le_refl _, Nat.le_refl _⟩ hl.1 rfl (Nat.le_of_ble_eq_true rfl) dX0_share_2 (fun H locs h => ?_)
    refine n_if_ne (tgt := 16) hx hb dX0_share_5 (by decide) (by omega) (fun c5 => ?_) (fun c5 => absurd c5 (by omega))
    refine lv_iconst (v := (-1)) hx hb dX0_share_16 (by decide) ?_
    exact hret _ _ _ _ _ (c, t, v, S, K, R, O) _ h (pubX_i (by simp only [sp_share, ha])) hrt rfl dX0_share_17
  | some r =>
    obtain ⟨hr, rfl⟩ := ix_some (by decide) ha
    cases hb2 : ix c b with
    | none =>
      refine lv_aload_n hx hb dX0_share_0 rfl (lv_at hl 0 rfl) ?_
      refine lv_iload_n hx hb dX0_share_1 rfl (lv_at hl 1 rfl) ?_
      refine x_callr (x := nI 0) G h (mX_badRule0 l D ad cI cB c t v S K R O r (by omega)) kX_badRule rfl ⟨Nat.le_of_ble_eq_true rfl, Nat.le_of_ble_eq_true rfl, Nat.le_refl _, Nat.le_refl _⟩ hl.1 rfl (Nat.le_of_ble_eq_true rfl) dX0_share_2 (fun H locs h => ?_)
      refine n_if_ne (tgt := 16) hx hb dX0_share_5 (by decide) (by omega) (fun c5 => absurd c5 (by omega)) (fun c5 => ?_)
      refine lv_aload_n hx hb dX0_share_8 rfl (lv_at hl 0 rfl) ?_
      refine lv_iload_n hx hb dX0_share_9 rfl (lv_at hl 2 rfl) ?_
      refine x_callr (x := nI 1) G h (mX_missingList1 l D ad cI cB c t v S K R O b hc hb2) kX_missingList rfl ⟨Nat.le_of_ble_eq_true rfl, Nat.le_of_ble_eq_true rfl, Nat.le_refl _, Nat.le_refl _⟩ hl.1 rfl (Nat.le_of_ble_eq_true rfl) dX0_share_10 (fun H locs h => ?_)
      refine n_if_eq (tgt := 18) hx hb dX0_share_13 (by decide) (by omega) (fun c13 => absurd c13 (by omega)) (fun c13 => ?_)
      refine lv_iconst (v := (-1)) hx hb dX0_share_16 (by decide) ?_
      exact hret _ _ _ _ _ (c, t, v, S, K, R, O) _ h (pubX_i (by simp only [sp_share, ha, hb2])) hrt rfl dX0_share_17
    | some i =>
      obtain ⟨hi, rfl⟩ := ix_some (by omega) hb2
      refine lv_aload_n hx hb dX0_share_0 rfl (lv_at hl 0 rfl) ?_
      refine lv_iload_n hx hb dX0_share_1 rfl (lv_at hl 1 rfl) ?_
      refine x_callr (x := nI 0) G h (mX_badRule0 l D ad cI cB c t v S K R O r (by omega)) kX_badRule rfl ⟨Nat.le_of_ble_eq_true rfl, Nat.le_of_ble_eq_true rfl, Nat.le_refl _, Nat.le_refl _⟩ hl.1 rfl (Nat.le_of_ble_eq_true rfl) dX0_share_2 (fun H locs h => ?_)
      refine n_if_ne (tgt := 16) hx hb dX0_share_5 (by decide) (by omega) (fun c5 => absurd c5 (by omega)) (fun c5 => ?_)
      refine lv_aload_n hx hb dX0_share_8 rfl (lv_at hl 0 rfl) ?_
      refine lv_iload_n hx hb dX0_share_9 rfl (lv_at hl 2 rfl) ?_
      refine x_callr (x := nI 0) G h (mX_missingList0 l D ad cI cB c t v S K R O i hc (by omega)) kX_missingList rfl ⟨Nat.le_of_ble_eq_true rfl, Nat.le_of_ble_eq_true rfl, Nat.le_refl _, Nat.le_refl _⟩ hl.1 rfl (Nat.le_of_ble_eq_true rfl) dX0_share_10 (fun H locs h => ?_)
      refine n_if_eq (tgt := 18) hx hb dX0_share_13 (by decide) (by omega) (fun c13 => ?_) (fun c13 => absurd c13 (by omega))
      refine lv_aload_n hx hb dX0_share_18 rfl (lv_at hl 0 rfl) ?_
      refine lv_iload_n hx hb dX0_share_19 rfl (lv_at hl 1 rfl) ?_
      refine lv_aload_n hx hb dX0_share_20 rfl (lv_at hl 0 rfl) ?_
      refine x_getT G h dX0_share_21 ?_
      refine x_callv G h (mX_shareOut l D ad cI cB c t v S K R O r t (by omega) hc hv3 (by omega)) kX_shareOut rfl ⟨Nat.le_of_ble_eq_true rfl, Nat.le_of_ble_eq_true rfl, Nat.le_refl _, Nat.le_refl _⟩ hl.1 rfl (Nat.le_of_ble_eq_true rfl) dX0_share_24 (fun c1 t1 v1 Sa1 K1 Ra1 Oa1 H locs hp h => ?_)
      obtain ⟨S2, R2, O2, e1, hSa1⟩ := hp
      cases e1
      refine lv_aload_n hx hb dX0_share_27 rfl (lv_at hl 0 rfl) ?_
      refine x_getS G h dX0_share_28 ?_
      refine lv_iload_n hx hb dX0_share_31 rfl (lv_at hl 2 rfl) ?_
      refine x_ldS (x := (nI (sh r v c t i))) G h (by omega) (hSa1 i hi) dX0_share_32 ?_
      exact hret _ _ _ _ _ (c, t, v, Sa1, K, Ra1, Oa1) _ h (pubX_i (by simp only [sp_share, ha, hb2])) hrt rfl dX0_share_33
set_option maxHeartbeats 4000000 in
theorem mX_next (l : Launch) (D : va_G) (ad : Nat → Nat) (cI cB : ClassId) (c t : Nat) (v : Nat → Nat) (S K R O : Nat → Int32) (a : Int32) (hc : c ≤ 6) (ht : t ≤ 30) (hv : ∀ j, j < c → v j ≤ 999) : Mi l D (tyX cI cB) (WX ad cI cB) yX0_next cX0_next 3 (some .int) 5 133 (ad 0) [.int a] (c, t, v, S, K, R, O) (pubX (sp_next c t v a)) := by
  refine Mi.of (by decide) (Nat.le_of_ble_eq_true rfl) ?_
  intro p e s m args below meth cd A ls Q G hrt h hl hret
  have G : GX D A cI cB p s m args cd cX0_next 3 := G
  have h : HX D A ad cI cB s.heap c t v S K R O s.heap [] := h
  have hl : lv_has ls 3 [(0, .ref (ad 0)), (1, .int a)] := hl
  have hx := G.1.1
  have hb := G.1.2.1
  have hv3 : ∀ j, j < c → v j ≤ 2999 := fun j hj => by have := hv j hj; omega
  have hal : sumTo v c ≤ 5994 := by have := sumTo_le hv; have h2 : c * 999 ≤ 6 * 999 := Nat.mul_le_mul_right _ hc; omega
  cases ha : ix 7 a with
  | none =>
    refine lv_aload_n hx hb dX0_next_0 rfl (lv_at hl 0 rfl) ?_
    refine lv_iload_n hx hb dX0_next_1 rfl (lv_at hl 1 rfl) ?_
    refine x_callr (x := nI 1) G h (mX_badRule1 l D ad cI cB c t v S K R O a ha) kX_badRule rfl ⟨Nat.le_of_ble_eq_true rfl, Nat.le_of_ble_eq_true rfl, Nat.le_refl _, Nat.le_refl _⟩ hl.1 rfl (Nat.le_of_ble_eq_true rfl) dX0_next_2 (fun H locs h => ?_)
    refine n_if_ne (tgt := 13) hx hb dX0_next_5 (by decide) (by omega) (fun c5 => ?_) (fun c5 => absurd c5 (by omega))
    refine lv_iconst (v := (-1)) hx hb dX0_next_13 (by decide) ?_
    exact hret _ _ _ _ _ (c, t, v, S, K, R, O) _ h (pubX_i (by simp only [sp_next, ha])) hrt rfl dX0_next_14
  | some r =>
    obtain ⟨hr, rfl⟩ := ix_some (by decide) ha
    refine lv_aload_n hx hb dX0_next_0 rfl (lv_at hl 0 rfl) ?_
    refine lv_iload_n hx hb dX0_next_1 rfl (lv_at hl 1 rfl) ?_
    refine x_callr (x := nI 0) G h (mX_badRule0 l D ad cI cB c t v S K R O r (by omega)) kX_badRule rfl ⟨Nat.le_of_ble_eq_true rfl, Nat.le_of_ble_eq_true rfl, Nat.le_refl _, Nat.le_refl _⟩ hl.1 rfl (Nat.le_of_ble_eq_true rfl) dX0_next_2 (fun H locs h => ?_)
    refine n_if_ne (tgt := 13) hx hb dX0_next_5 (by decide) (by omega) (fun c5 => absurd c5 (by omega)) (fun c5 => ?_)
    refine lv_iload_n hx hb dX0_next_8 rfl (lv_at hl 1 rfl) ?_
    refine lv_iconst (v := (nI 5)) hx hb dX0_next_9 (by decide) ?_
    refine n_icmp_lt (tgt := 15) hx hb dX0_next_10 (by decide) (by omega) (by omega) (fun c10 => ?_) (fun c10 => ?_)
    · skip
      refine lv_aload_n hx hb dX0_next_15 rfl (lv_at hl 0 rfl) ?_
      refine x_callr (x := (nI (sumTo v c))) G h (mX_allVotes l D ad cI cB c t v S K R O hc) kX_allVotes rfl ⟨Nat.le_of_ble_eq_true rfl, Nat.le_of_ble_eq_true rfl, Nat.le_refl _, Nat.le_refl _⟩ hl.1 rfl (Nat.le_of_ble_eq_true rfl) dX0_next_16 (fun H locs h => ?_)
      refine lv_istore_n (lv' := [(2, .int (nI (sumTo v c))), (0, .ref (ad 0)), (1, .int (nI r))]) hx hb dX0_next_19 rfl hl (by decide) rfl (fun ls hl => ?_)
      refine lv_iload_n hx hb dX0_next_20 rfl (lv_at hl 0 rfl) ?_
      refine n_if_ne (tgt := 27) hx hb dX0_next_21 (by decide) (by omega) (fun c21 => ?_) (fun c21 => ?_)
      · skip
        refine lv_aload_n hx hb dX0_next_27 rfl (lv_at hl 1 rfl) ?_
        refine lv_iload_n hx hb dX0_next_28 rfl (lv_at hl 2 rfl) ?_
        refine lv_aload_n hx hb dX0_next_29 rfl (lv_at hl 1 rfl) ?_
        refine x_getT G h dX0_next_30 ?_
        refine x_callv G h (mX_shareOut l D ad cI cB c t v S K R O r t (by omega) hc hv3 (by omega)) kX_shareOut rfl ⟨Nat.le_of_ble_eq_true rfl, Nat.le_of_ble_eq_true rfl, Nat.le_refl _, Nat.le_refl _⟩ hl.1 rfl (Nat.le_of_ble_eq_true rfl) dX0_next_33 (fun c1 t1 v1 Sa1 K1 Ra1 Oa1 H locs hp h => ?_)
        obtain ⟨S2, R2, O2, e1, hSa1⟩ := hp
        cases e1
        refine lv_aload_n hx hb dX0_next_36 rfl (lv_at hl 1 rfl) ?_
        refine lv_iload_n hx hb dX0_next_37 rfl (lv_at hl 2 rfl) ?_
        refine x_callr (x := (oI (fnS r v (sh r v c t) c))) G h (mX_firstNext l D ad cI cB c t v Sa1 K Ra1 Oa1 r (sh r v c t) (by omega) hc hv3 hSa1 (fun j hj => by have := sh_le (r := r) (v := v) (n := t) hj; omega)) kX_firstNext rfl ⟨Nat.le_of_ble_eq_true rfl, Nat.le_of_ble_eq_true rfl, Nat.le_refl _, Nat.le_refl _⟩ hl.1 rfl (Nat.le_of_ble_eq_true rfl) dX0_next_38 (fun H locs h => ?_)
        exact hret _ _ _ _ _ (c, t, v, Sa1, K, Ra1, Oa1) _ h (pubX_i (by simp only [sp_next, ha, if_neg (show ¬ 5 ≤ r by omega), if_neg (show ¬ sumTo v c = 0 by omega)])) hrt rfl dX0_next_41
      · skip
        refine lv_bipush (v := (-4)) hx hb dX0_next_24 (by decide) ?_
        exact hret _ _ _ _ _ (c, t, v, S, K, R, O) _ h (pubX_i (by simp only [sp_next, ha, if_neg (show ¬ 5 ≤ r by omega), if_pos c21])) hrt rfl dX0_next_26
    · skip
      refine lv_iconst (v := (-1)) hx hb dX0_next_13 (by decide) ?_
      exact hret _ _ _ _ _ (c, t, v, S, K, R, O) _ h (pubX_i (by simp only [sp_next, ha, if_pos c10])) hrt rfl dX0_next_14
end
section
set_option maxRecDepth 100000
set_option maxHeartbeats 4000000 in
theorem mX_fall (l : Launch) (D : va_G) (ad : Nat → Nat) (cI cB : ClassId) (c t : Nat) (v : Nat → Nat) (S K R O : Nat → Int32) (a : Int32) (hc : c ≤ 6) (ht : t ≤ 30) (hv : ∀ j, j < c → v j ≤ 999) : Mi l D (tyX cI cB) (WX ad cI cB) yX0_fall cX0_fall 5 (some .int) 5 133 (ad 0) [.int a] (c, t, v, S, K, R, O) (pubX (sp_fall c t v a)) := by
  refine Mi.of (by decide) (Nat.le_of_ble_eq_true rfl) ?_
  intro p e s m args below meth cd A ls Q G hrt h hl hret
  have G : GX D A cI cB p s m args cd cX0_fall 5 := G
  have h : HX D A ad cI cB s.heap c t v S K R O s.heap [] := h
  have hl : lv_has ls 5 [(0, .ref (ad 0)), (1, .int a)] := hl
  have hx := G.1.1
  have hb := G.1.2.1
  have hv3 : ∀ j, j < c → v j ≤ 2999 := fun j hj => by have := hv j hj; omega
  have hal : sumTo v c ≤ 5994 := by have := sumTo_le hv; have h2 : c * 999 ≤ 6 * 999 := Nat.mul_le_mul_right _ hc; omega
  cases ha : ix 7 a with
  | none =>
    refine lv_aload_n hx hb dX0_fall_0 rfl (lv_at hl 0 rfl) ?_
    refine lv_iload_n hx hb dX0_fall_1 rfl (lv_at hl 1 rfl) ?_
    refine x_callr (x := nI 1) G h (mX_badRule1 l D ad cI cB c t v S K R O a ha) kX_badRule rfl ⟨Nat.le_of_ble_eq_true rfl, Nat.le_of_ble_eq_true rfl, Nat.le_refl _, Nat.le_refl _⟩ hl.1 rfl (Nat.le_of_ble_eq_true rfl) dX0_fall_2 (fun H locs h => ?_)
    refine n_if_eq (tgt := 10) hx hb dX0_fall_5 (by decide) (by omega) (fun c5 => absurd c5 (by omega)) (fun c5 => ?_)
    refine lv_iconst (v := (-1)) hx hb dX0_fall_8 (by decide) ?_
    exact hret _ _ _ _ _ (c, t, v, S, K, R, O) _ h (pubX_i (by simp only [sp_fall, ha])) hrt rfl dX0_fall_9
  | some r =>
    obtain ⟨hr, rfl⟩ := ix_some (by decide) ha
    refine lv_aload_n hx hb dX0_fall_0 rfl (lv_at hl 0 rfl) ?_
    refine lv_iload_n hx hb dX0_fall_1 rfl (lv_at hl 1 rfl) ?_
    refine x_callr (x := nI 0) G h (mX_badRule0 l D ad cI cB c t v S K R O r (by omega)) kX_badRule rfl ⟨Nat.le_of_ble_eq_true rfl, Nat.le_of_ble_eq_true rfl, Nat.le_refl _, Nat.le_refl _⟩ hl.1 rfl (Nat.le_of_ble_eq_true rfl) dX0_fall_2 (fun H locs h => ?_)
    refine n_if_eq (tgt := 10) hx hb dX0_fall_5 (by decide) (by omega) (fun c5 => ?_) (fun c5 => absurd c5 (by omega))
    refine lv_iload_n hx hb dX0_fall_10 rfl (lv_at hl 1 rfl) ?_
    refine lv_iconst (v := (nI 5)) hx hb dX0_fall_11 (by decide) ?_
    refine n_icmp_ge (tgt := 18) hx hb dX0_fall_12 (by decide) (by omega) (by omega) (fun c12 => ?_) (fun c12 => ?_)
    · skip
      refine lv_aload_n hx hb dX0_fall_18 rfl (lv_at hl 0 rfl) ?_
      refine x_getT G h dX0_fall_19 ?_
      refine lv_istore_n (lv' := [(2, .int (nI t)), (0, .ref (ad 0)), (1, .int (nI r))]) hx hb dX0_fall_22 rfl hl (by decide) rfl (fun ls hl => ?_)
      have L23 : ∀ (n23 : Nat) (nn : Nat) (S1 : Nat → Int32) (K1 : Nat → Int32) (R1 : Nat → Int32) (O1 : Nat → Int32), 30 - nn < n23 → (t ≤ nn) → (nn ≤ 30) → (lst (flP r v c) (30 - nn) nn = lst (flP r v c) (30 - t) t) → ∀ (H : Heap) (locs : List Loc), HX D A ad cI cB s.heap c t v S1 K1 R1 O1 H locs → ∀ (ls : Array Slot), lv_has ls 5 [(0, .ref (ad 0)), (1, .int (nI r)), (2, .int (nI nn))] → W p l e (rmm 5 133) s m args below meth cd H locs 0 0 Q (F0 m 23 ls []) := by
        intro n23
        induction n23 with
        | zero =>
          intro nn S1 K1 R1 O1 hm
          exact absurd hm (Nat.not_lt_zero _)
        | succ n23 ih23 =>
          intro nn S1 K1 R1 O1 hm23 hn1 hn2 hls H locs h ls hl
          refine lv_iload_n hx hb dX0_fall_23 rfl (lv_at hl 2 rfl) ?_
          refine lv_bipush (v := (nI 30)) hx hb dX0_fall_24 (by decide) ?_
          refine n_icmp_ge (tgt := 106) hx hb dX0_fall_26 (by decide) (by omega) (by omega) (fun c26 => ?_) (fun c26 => ?_)
          · skip
            refine lv_bipush (v := (-4)) hx hb dX0_fall_106 (by decide) ?_
            exact hret _ _ _ _ _ (c, t, v, S1, K1, R1, O1) _ h (pubX_i (by simp only [sp_fall, ha, if_neg (show ¬ r < 5 by omega)]; rw [← hls, show 30 - nn = 0 by omega]; rfl)) hrt rfl dX0_fall_108
          · skip
            refine lv_aload_n hx hb dX0_fall_29 rfl (lv_at hl 0 rfl) ?_
            refine lv_iload_n hx hb dX0_fall_30 rfl (lv_at hl 1 rfl) ?_
            refine lv_iload_n hx hb dX0_fall_31 rfl (lv_at hl 2 rfl) ?_
            refine x_callv G h (mX_shareOut l D ad cI cB c t v S1 K1 R1 O1 r nn (by omega) hc hv3 (by omega)) kX_shareOut rfl ⟨Nat.le_of_ble_eq_true rfl, Nat.le_of_ble_eq_true rfl, Nat.le_refl _, Nat.le_refl _⟩ hl.1 rfl (Nat.le_of_ble_eq_true rfl) dX0_fall_32 (fun c1 t1 v1 Sa1 K1 Ra1 Oa1 H locs hp h => ?_)
            obtain ⟨S2, R2, O2, e1, hSa1⟩ := hp
            cases e1
            refine lv_aload_n hx hb dX0_fall_35 rfl (lv_at hl 0 rfl) ?_
            refine x_callv G h (mX_keepShares l D ad cI cB c t v Sa1 K1 Ra1 Oa1 hc) kX_keepShares rfl ⟨Nat.le_of_ble_eq_true rfl, Nat.le_of_ble_eq_true rfl, Nat.le_refl _, Nat.le_refl _⟩ hl.1 rfl (Nat.le_of_ble_eq_true rfl) dX0_fall_36 (fun c1 t1 v1 S1 Ka R1 O1 H locs hp h => ?_)
            obtain ⟨K2, e1, hKa⟩ := hp
            cases e1
            refine lv_aload_n hx hb dX0_fall_39 rfl (lv_at hl 0 rfl) ?_
            refine lv_iload_n hx hb dX0_fall_40 rfl (lv_at hl 1 rfl) ?_
            refine lv_iload_n hx hb dX0_fall_41 rfl (lv_at hl 2 rfl) ?_
            refine lv_iconst (v := (nI 1)) hx hb dX0_fall_42 (by decide) ?_
            refine n_iadd hx hb dX0_fall_43 ?_
            refine x_callv G h (mX_shareOut l D ad cI cB c t v Sa1 Ka Ra1 Oa1 r (nn + 1) (by omega) hc hv3 (by omega)) kX_shareOut rfl ⟨Nat.le_of_ble_eq_true rfl, Nat.le_of_ble_eq_true rfl, Nat.le_refl _, Nat.le_refl _⟩ hl.1 rfl (Nat.le_of_ble_eq_true rfl) dX0_fall_44 (fun c1 t1 v1 Sa2 K1 Ra2 Oa2 H locs hp h => ?_)
            obtain ⟨S2, R2, O2, e1, hSa2⟩ := hp
            cases e1
            refine lv_iconst (v := (bI false)) hx hb dX0_fall_47 (by decide) ?_
            refine lv_istore_n (lv' := [(3, .int (bI false)), (0, .ref (ad 0)), (1, .int (nI r)), (2, .int (nI nn))]) hx hb dX0_fall_48 rfl hl (by decide) rfl (fun ls hl => ?_)
            refine lv_iconst (v := (nI 0)) hx hb dX0_fall_49 (by decide) ?_
            refine lv_istore (lv' := [(4, .int (nI 0)), (3, .int (bI false)), (0, .ref (ad 0)), (1, .int (nI r)), (2, .int (nI nn))]) hx hb dX0_fall_50 hl (by decide) rfl (fun ls hl => ?_)
            have L52 : ∀ (n52 : Nat) (i : Nat) (bb : Bool), c - i < n52 → (i ≤ c) → (bb = anyTo (fun i => decide (sh r v c (nn + 1) i < sh r v c nn i)) i) → ∀ (H : Heap) (locs : List Loc), HX D A ad cI cB s.heap c t v Sa2 Ka Ra2 Oa2 H locs → ∀ (ls : Array Slot), lv_has ls 5 [(0, .ref (ad 0)), (1, .int (nI r)), (2, .int (nI nn)), (3, .int (bI bb)), (4, .int (nI i))] → W p l e (rmm 5 133) s m args below meth cd H locs 0 0 Q (F0 m 52 ls []) := by
              intro n52
              induction n52 with
              | zero =>
                intro i bb hm
                exact absurd hm (Nat.not_lt_zero _)
              | succ n52 ih52 =>
                intro i bb hm52 hi hbb H locs h ls hl
                refine lv_iload hx hb dX0_fall_52 (lv_at hl 4 rfl) ?_
                refine lv_aload_n hx hb dX0_fall_54 rfl (lv_at hl 0 rfl) ?_
                refine x_getC G h dX0_fall_55 ?_
                refine n_icmp_ge (tgt := 94) hx hb dX0_fall_58 (by decide) (by omega) (by omega) (fun c58 => ?_) (fun c58 => ?_)
                · skip
                  have hic : i = c := by omega
                  refine lv_iload_n hx hb dX0_fall_94 rfl (lv_at hl 3 rfl) ?_
                  refine b_if_eq (tgt := 100) hx hb dX0_fall_95 (by decide) (fun c95 => ?_) (fun c95 => ?_)
                  · skip
                    refine lv_iinc (v := nI (nn + 1)) (lv' := [(2, .int (nI (nn + 1))), (0, .ref (ad 0)), (1, .int (nI r)), (3, .int (bI bb)), (4, .int (nI i))]) hx hb dX0_fall_100 hl (k := 2) rfl (inc1 _) (by decide) rfl (fun ls hl => ?_)
                    refine lv_goto (tgt := 23) hx hb dX0_fall_103 (by decide) ?_
                    exact ih23 (nn + 1) Sa2 Ka Ra2 Oa2 (by omega) (by omega) (by omega) (by rw [← hls, lst_miss (P := flP r v c) (f := 30 - nn) (k := nn) (by omega) (by have q := hbb; rw [hic] at q; exact q.symm.trans c95)]; rfl) _ _ h _ (lv_sub hl [1, 2, 0] rfl)
                  · skip
                    refine lv_iload_n hx hb dX0_fall_98 rfl (lv_at hl 2 rfl) ?_
                    exact hret _ _ _ _ _ (c, t, v, Sa2, Ka, Ra2, Oa2) _ h (pubX_i (by simp only [sp_fall, ha, if_neg (show ¬ r < 5 by omega)]; rw [← hls, lst_hit (P := flP r v c) (f := 30 - nn) (k := nn) (by omega) (by have q := hbb; rw [hic] at q; exact q.symm.trans c95)]; rfl)) hrt rfl dX0_fall_99
                · skip
                  refine lv_iload_n hx hb dX0_fall_61 rfl (lv_at hl 3 rfl) ?_
                  refine b_if_ne (tgt := 82) hx hb dX0_fall_62 (by decide) (fun c62 => ?_) (fun c62 => ?_)
                  · skip
                    refine lv_iconst (v := (bI true)) hx hb dX0_fall_82 (by decide) ?_
                    refine lv_goto (tgt := 87) hx hb dX0_fall_83 (by decide) ?_
                    refine lv_istore_n (lv' := [(3, .int (bI true)), (0, .ref (ad 0)), (1, .int (nI r)), (2, .int (nI nn)), (4, .int (nI i))]) hx hb dX0_fall_87 rfl hl (by decide) rfl (fun ls hl => ?_)
                    refine lv_iinc (v := nI (i + 1)) (lv' := [(4, .int (nI (i + 1))), (3, .int (bI true)), (0, .ref (ad 0)), (1, .int (nI r)), (2, .int (nI nn))]) hx hb dX0_fall_88 hl (k := 4) rfl (inc1 _) (by decide) rfl (fun ls hl => ?_)
                    refine lv_goto (tgt := 52) hx hb dX0_fall_91 (by decide) ?_
                    exact ih52 (i + 1) true (by omega) (by omega) (by rw [anyTo_s, ← hbb, c62]; rfl) _ _ h _ (lv_sub hl [2, 3, 4, 1, 0] rfl)
                  · skip
                    refine lv_aload_n hx hb dX0_fall_65 rfl (lv_at hl 0 rfl) ?_
                    refine x_getS G h dX0_fall_66 ?_
                    refine lv_iload hx hb dX0_fall_69 (lv_at hl 4 rfl) ?_
                    refine x_ldS (x := (nI (sh r v c (nn + 1) i))) G h (by omega) (hSa2 i (by omega)) dX0_fall_71 ?_
                    refine lv_aload_n hx hb dX0_fall_72 rfl (lv_at hl 0 rfl) ?_
                    refine x_getK G h dX0_fall_73 ?_
                    refine lv_iload hx hb dX0_fall_76 (lv_at hl 4 rfl) ?_
                    refine x_ldK (x := (nI (sh r v c nn i))) G h (by omega) ((hKa i (by omega)).trans (hSa1 i (by omega))) dX0_fall_78 ?_
                    refine n_icmp_ge (tgt := 86) hx hb dX0_fall_79 (by decide) (by have q1 := sh_le (r := r) (v := v) (n := nn + 1) (show i < c by omega); omega) (by have q1 := sh_le (r := r) (v := v) (n := nn) (show i < c by omega); omega) (fun c79 => ?_) (fun c79 => ?_)
                    · skip
                      refine lv_iconst (v := (bI false)) hx hb dX0_fall_86 (by decide) ?_
                      refine lv_istore_n (lv' := [(3, .int (bI false)), (0, .ref (ad 0)), (1, .int (nI r)), (2, .int (nI nn)), (4, .int (nI i))]) hx hb dX0_fall_87 rfl hl (by decide) rfl (fun ls hl => ?_)
                      refine lv_iinc (v := nI (i + 1)) (lv' := [(4, .int (nI (i + 1))), (3, .int (bI false)), (0, .ref (ad 0)), (1, .int (nI r)), (2, .int (nI nn))]) hx hb dX0_fall_88 hl (k := 4) rfl (inc1 _) (by decide) rfl (fun ls hl => ?_)
                      refine lv_goto (tgt := 52) hx hb dX0_fall_91 (by decide) ?_
                      exact ih52 (i + 1) false (by omega) (by omega) (by rw [anyTo_s, ← hbb, c62]; exact (decide_eq_false (by omega)).symm) _ _ h _ (lv_sub hl [2, 3, 4, 1, 0] rfl)
                    · skip
                      refine lv_iconst (v := (bI true)) hx hb dX0_fall_82 (by decide) ?_
                      refine lv_goto (tgt := 87) hx hb dX0_fall_83 (by decide) ?_
                      refine lv_istore_n (lv' := [(3, .int (bI true)), (0, .ref (ad 0)), (1, .int (nI r)), (2, .int (nI nn)), (4, .int (nI i))]) hx hb dX0_fall_87 rfl hl (by decide) rfl (fun ls hl => ?_)
                      refine lv_iinc (v := nI (i + 1)) (lv' := [(4, .int (nI (i + 1))), (3, .int (bI true)), (0, .ref (ad 0)), (1, .int (nI r)), (2, .int (nI nn))]) hx hb dX0_fall_88 hl (k := 4) rfl (inc1 _) (by decide) rfl (fun ls hl => ?_)
                      refine lv_goto (tgt := 52) hx hb dX0_fall_91 (by decide) ?_
                      exact ih52 (i + 1) true (by omega) (by omega) (by rw [anyTo_s, ← hbb, c62]; exact (decide_eq_true (by omega)).symm) _ _ h _ (lv_sub hl [2, 3, 4, 1, 0] rfl)
            exact L52 _ 0 false (Nat.lt_succ_self _) (Nat.zero_le _) rfl _ _ h _ (lv_sub hl [2, 3, 4, 1, 0] rfl)
      exact L23 _ t S K R O (Nat.lt_succ_self _) (Nat.le_refl _) (by omega) rfl _ _ h _ (lv_sub hl [1, 2, 0] rfl)
    · skip
      refine lv_bipush (v := (-4)) hx hb dX0_fall_15 (by decide) ?_
      exact hret _ _ _ _ _ (c, t, v, S, K, R, O) _ h (pubX_i (by simp only [sp_fall, ha, if_pos c12])) hrt rfl dX0_fall_17
set_option maxHeartbeats 4000000 in
theorem mX_outside (l : Launch) (D : va_G) (ad : Nat → Nat) (cI cB : ClassId) (c t : Nat) (v : Nat → Nat) (S K R O : Nat → Int32) (a : Int32) (hc : c ≤ 6) (ht : t ≤ 30) (hv : ∀ j, j < c → v j ≤ 999) : Mi l D (tyX cI cB) (WX ad cI cB) yX0_outside cX0_outside 7 (some .int) 5 133 (ad 0) [.int a] (c, t, v, S, K, R, O) (pubX (sp_outside c t v a)) := by
  refine Mi.of (by decide) (Nat.le_of_ble_eq_true rfl) ?_
  intro p e s m args below meth cd A ls Q G hrt h hl hret
  have G : GX D A cI cB p s m args cd cX0_outside 7 := G
  have h : HX D A ad cI cB s.heap c t v S K R O s.heap [] := h
  have hl : lv_has ls 7 [(0, .ref (ad 0)), (1, .int a)] := hl
  have hx := G.1.1
  have hb := G.1.2.1
  have hv3 : ∀ j, j < c → v j ≤ 2999 := fun j hj => by have := hv j hj; omega
  have hal : sumTo v c ≤ 5994 := by have := sumTo_le hv; have h2 : c * 999 ≤ 6 * 999 := Nat.mul_le_mul_right _ hc; omega
  cases ha : ix 7 a with
  | none =>
    refine lv_aload_n hx hb dX0_outside_0 rfl (lv_at hl 0 rfl) ?_
    refine lv_iload_n hx hb dX0_outside_1 rfl (lv_at hl 1 rfl) ?_
    refine x_callr (x := nI 1) G h (mX_badRule1 l D ad cI cB c t v S K R O a ha) kX_badRule rfl ⟨Nat.le_of_ble_eq_true rfl, Nat.le_of_ble_eq_true rfl, Nat.le_refl _, Nat.le_refl _⟩ hl.1 rfl (Nat.le_of_ble_eq_true rfl) dX0_outside_2 (fun H locs h => ?_)
    refine n_if_eq (tgt := 10) hx hb dX0_outside_5 (by decide) (by omega) (fun c5 => absurd c5 (by omega)) (fun c5 => ?_)
    refine lv_iconst (v := (-1)) hx hb dX0_outside_8 (by decide) ?_
    exact hret _ _ _ _ _ (c, t, v, S, K, R, O) _ h (pubX_i (by simp only [sp_outside, ha])) hrt rfl dX0_outside_9
  | some r =>
    obtain ⟨hr, rfl⟩ := ix_some (by decide) ha
    refine lv_aload_n hx hb dX0_outside_0 rfl (lv_at hl 0 rfl) ?_
    refine lv_iload_n hx hb dX0_outside_1 rfl (lv_at hl 1 rfl) ?_
    refine x_callr (x := nI 0) G h (mX_badRule0 l D ad cI cB c t v S K R O r (by omega)) kX_badRule rfl ⟨Nat.le_of_ble_eq_true rfl, Nat.le_of_ble_eq_true rfl, Nat.le_refl _, Nat.le_refl _⟩ hl.1 rfl (Nat.le_of_ble_eq_true rfl) dX0_outside_2 (fun H locs h => ?_)
    refine n_if_eq (tgt := 10) hx hb dX0_outside_5 (by decide) (by omega) (fun c5 => ?_) (fun c5 => absurd c5 (by omega))
    refine lv_aload_n hx hb dX0_outside_10 rfl (lv_at hl 0 rfl) ?_
    refine lv_iload_n hx hb dX0_outside_11 rfl (lv_at hl 1 rfl) ?_
    refine lv_aload_n hx hb dX0_outside_12 rfl (lv_at hl 0 rfl) ?_
    refine x_getT G h dX0_outside_13 ?_
    refine x_callv G h (mX_shareOut l D ad cI cB c t v S K R O r t (by omega) hc hv3 (by omega)) kX_shareOut rfl ⟨Nat.le_of_ble_eq_true rfl, Nat.le_of_ble_eq_true rfl, Nat.le_refl _, Nat.le_refl _⟩ hl.1 rfl (Nat.le_of_ble_eq_true rfl) dX0_outside_16 (fun c1 t1 v1 Sa1 K1 Ra1 Oa1 H locs hp h => ?_)
    obtain ⟨S2, R2, O2, e1, hSa1⟩ := hp
    cases e1
    refine lv_aload_n hx hb dX0_outside_19 rfl (lv_at hl 0 rfl) ?_
    refine x_callr (x := (nI (sumTo v c))) G h (mX_allVotes l D ad cI cB c t v Sa1 K Ra1 Oa1 hc) kX_allVotes rfl ⟨Nat.le_of_ble_eq_true rfl, Nat.le_of_ble_eq_true rfl, Nat.le_refl _, Nat.le_refl _⟩ hl.1 rfl (Nat.le_of_ble_eq_true rfl) dX0_outside_20 (fun H locs h => ?_)
    refine lv_istore_n (lv' := [(2, .int (nI (sumTo v c))), (0, .ref (ad 0)), (1, .int (nI r))]) hx hb dX0_outside_23 rfl hl (by decide) rfl (fun ls hl => ?_)
    refine lv_iconst (v := (nI 0)) hx hb dX0_outside_24 (by decide) ?_
    refine lv_istore_n (lv' := [(3, .int (nI 0)), (2, .int (nI (sumTo v c))), (0, .ref (ad 0)), (1, .int (nI r))]) hx hb dX0_outside_25 rfl hl (by decide) rfl (fun ls hl => ?_)
    refine lv_iconst (v := (nI 0)) hx hb dX0_outside_26 (by decide) ?_
    refine lv_istore (lv' := [(4, .int (nI 0)), (3, .int (nI 0)), (2, .int (nI (sumTo v c))), (0, .ref (ad 0)), (1, .int (nI r))]) hx hb dX0_outside_27 hl (by decide) rfl (fun ls hl => ?_)
    have L29 : ∀ (n29 : Nat) (i : Nat) (mm : Nat), c - i < n29 → (i ≤ c) → (mm = cntB (ouP (sh r v c t) v t (sumTo v c)) i) → ∀ (H : Heap) (locs : List Loc), HX D A ad cI cB s.heap c t v Sa1 K Ra1 Oa1 H locs → ∀ (ls : Array Slot), lv_has ls 7 [(0, .ref (ad 0)), (1, .int (nI r)), (2, .int (nI (sumTo v c))), (3, .int (nI mm)), (4, .int (nI i))] → W p l e (rmm 5 133) s m args below meth cd H locs 0 0 Q (F0 m 29 ls []) := by
      intro n29
      induction n29 with
      | zero =>
        intro i mm hm
        exact absurd hm (Nat.not_lt_zero _)
      | succ n29 ih29 =>
        intro i mm hm29 hi hmm H locs h ls hl
        refine lv_iload hx hb dX0_outside_29 (lv_at hl 4 rfl) ?_
        refine lv_aload_n hx hb dX0_outside_31 rfl (lv_at hl 0 rfl) ?_
        refine x_getC G h dX0_outside_32 ?_
        refine n_icmp_ge (tgt := 114) hx hb dX0_outside_35 (by decide) (by omega) (by omega) (fun c35 => ?_) (fun c35 => ?_)
        · skip
          refine lv_iload_n hx hb dX0_outside_114 rfl (lv_at hl 3 rfl) ?_
          exact hret _ _ _ _ _ (c, t, v, Sa1, K, Ra1, Oa1) _ h (pubX_i (by rw [hmm, show i = c by omega]; simp only [sp_outside, ha])) hrt rfl dX0_outside_115
        · skip
          have q1 := Nat.mul_le_mul ht (hv i (by omega))
          have q2 := Nat.mul_le_mul (Nat.le_trans (sh_le (r := r) (v := v) (n := t) (show i < c by omega)) ht) hal
          refine lv_aload_n hx hb dX0_outside_38 rfl (lv_at hl 0 rfl) ?_
          refine x_getT G h dX0_outside_39 ?_
          refine lv_aload_n hx hb dX0_outside_42 rfl (lv_at hl 0 rfl) ?_
          refine x_getV G h dX0_outside_43 ?_
          refine lv_iload hx hb dX0_outside_46 (lv_at hl 4 rfl) ?_
          refine x_ldV G h (by omega) dX0_outside_48 ?_
          refine n_imul hx hb dX0_outside_49 ?_
          refine lv_istore (lv' := [(5, .int (nI (t * (v i)))), (0, .ref (ad 0)), (1, .int (nI r)), (2, .int (nI (sumTo v c))), (3, .int (nI mm)), (4, .int (nI i))]) hx hb dX0_outside_50 hl (by decide) rfl (fun ls hl => ?_)
          refine lv_aload_n hx hb dX0_outside_52 rfl (lv_at hl 1 rfl) ?_
          refine x_getS G h dX0_outside_53 ?_
          refine lv_iload hx hb dX0_outside_56 (lv_at hl 5 rfl) ?_
          refine x_ldS (x := (nI (sh r v c t i))) G h (by omega) (hSa1 i (by omega)) dX0_outside_58 ?_
          refine lv_iload_n hx hb dX0_outside_59 rfl (lv_at hl 3 rfl) ?_
          refine n_imul hx hb dX0_outside_60 ?_
          refine lv_iload hx hb dX0_outside_61 (lv_at hl 0 rfl) ?_
          refine lv_iload_n hx hb dX0_outside_63 rfl (lv_at hl 3 rfl) ?_
          refine lv_isub hx hb dX0_outside_64 ?_
          refine lv_icmp_le (tgt := 84) hx hb dX0_outside_65 (by decide) (fun c65 => ?_) (fun c65 => ?_)
          · skip
            have c65 := (far1 (by omega) (by omega) (by omega)).mp c65
            refine lv_iconst (v := (bI true)) hx hb dX0_outside_84 (by decide) ?_
            refine lv_goto (tgt := 89) hx hb dX0_outside_85 (by decide) ?_
            refine lv_istore (lv' := [(6, .int (bI true)), (5, .int (nI (t * (v i)))), (0, .ref (ad 0)), (1, .int (nI r)), (2, .int (nI (sumTo v c))), (3, .int (nI mm)), (4, .int (nI i))]) hx hb dX0_outside_89 hl (by decide) rfl (fun ls hl => ?_)
            refine lv_iload_n hx hb dX0_outside_91 rfl (lv_at hl 4 rfl) ?_
            refine n_if_le (tgt := 106) hx hb dX0_outside_92 (by decide) (by omega) (fun c92 => ?_) (fun c92 => ?_)
            · skip
              refine lv_iload_n hx hb dX0_outside_106 rfl (lv_at hl 5 rfl) ?_
              refine lv_istore_n (lv' := [(3, .int (nI mm)), (6, .int (bI true)), (5, .int (nI (t * (v i)))), (0, .ref (ad 0)), (1, .int (nI r)), (2, .int (nI (sumTo v c))), (4, .int (nI i))]) hx hb dX0_outside_107 rfl hl (by decide) rfl (fun ls hl => ?_)
              refine lv_iinc (v := nI (i + 1)) (lv' := [(4, .int (nI (i + 1))), (3, .int (nI mm)), (6, .int (bI true)), (5, .int (nI (t * (v i)))), (0, .ref (ad 0)), (1, .int (nI r)), (2, .int (nI (sumTo v c)))]) hx hb dX0_outside_108 hl (k := 6) rfl (inc1 _) (by decide) rfl (fun ls hl => ?_)
              refine lv_goto (tgt := 29) hx hb dX0_outside_111 (by decide) ?_
              exact ih29 (i + 1) mm (by omega) (by omega) (by rw [cntB_0 (P := ouP (sh r v c t) v t (sumTo v c)) (decide_eq_false (by omega)), hmm]) _ _ h _ (lv_sub hl [4, 5, 6, 1, 0] rfl)
            · skip
              refine lv_iload hx hb dX0_outside_95 (lv_at hl 0 rfl) ?_
              refine b_if_eq (tgt := 106) hx hb dX0_outside_97 (by decide) (fun c97 => absurd c97 (by decide)) (fun c97 => ?_)
              refine lv_iload_n hx hb dX0_outside_100 rfl (lv_at hl 5 rfl) ?_
              refine lv_iconst (v := (nI 1)) hx hb dX0_outside_101 (by decide) ?_
              refine n_iadd hx hb dX0_outside_102 ?_
              refine lv_goto (tgt := 107) hx hb dX0_outside_103 (by decide) ?_
              refine lv_istore_n (lv' := [(3, .int (nI (mm + 1))), (6, .int (bI true)), (5, .int (nI (t * (v i)))), (0, .ref (ad 0)), (1, .int (nI r)), (2, .int (nI (sumTo v c))), (4, .int (nI i))]) hx hb dX0_outside_107 rfl hl (by decide) rfl (fun ls hl => ?_)
              refine lv_iinc (v := nI (i + 1)) (lv' := [(4, .int (nI (i + 1))), (3, .int (nI (mm + 1))), (6, .int (bI true)), (5, .int (nI (t * (v i)))), (0, .ref (ad 0)), (1, .int (nI r)), (2, .int (nI (sumTo v c)))]) hx hb dX0_outside_108 hl (k := 6) rfl (inc1 _) (by decide) rfl (fun ls hl => ?_)
              refine lv_goto (tgt := 29) hx hb dX0_outside_111 (by decide) ?_
              exact ih29 (i + 1) (mm + 1) (by omega) (by omega) (by rw [cntB_1 (P := ouP (sh r v c t) v t (sumTo v c)) (decide_eq_true (by omega)), hmm]) _ _ h _ (lv_sub hl [4, 5, 6, 1, 0] rfl)
          · skip
            have c65 := mt (far1 (by omega) (by omega) (by omega)).mpr c65
            refine lv_aload_n hx hb dX0_outside_68 rfl (lv_at hl 1 rfl) ?_
            refine x_getS G h dX0_outside_69 ?_
            refine lv_iload hx hb dX0_outside_72 (lv_at hl 5 rfl) ?_
            refine x_ldS (x := (nI (sh r v c t i))) G h (by omega) (hSa1 i (by omega)) dX0_outside_74 ?_
            refine lv_iload_n hx hb dX0_outside_75 rfl (lv_at hl 3 rfl) ?_
            refine n_imul hx hb dX0_outside_76 ?_
            refine lv_iload hx hb dX0_outside_77 (lv_at hl 0 rfl) ?_
            refine lv_iload_n hx hb dX0_outside_79 rfl (lv_at hl 3 rfl) ?_
            refine n_iadd hx hb dX0_outside_80 ?_
            refine n_icmp_lt (tgt := 88) hx hb dX0_outside_81 (by decide) (by omega) (by omega) (fun c81 => ?_) (fun c81 => ?_)
            · skip
              refine lv_iconst (v := (bI false)) hx hb dX0_outside_88 (by decide) ?_
              refine lv_istore (lv' := [(6, .int (bI false)), (5, .int (nI (t * (v i)))), (0, .ref (ad 0)), (1, .int (nI r)), (2, .int (nI (sumTo v c))), (3, .int (nI mm)), (4, .int (nI i))]) hx hb dX0_outside_89 hl (by decide) rfl (fun ls hl => ?_)
              refine lv_iload_n hx hb dX0_outside_91 rfl (lv_at hl 4 rfl) ?_
              refine n_if_le (tgt := 106) hx hb dX0_outside_92 (by decide) (by omega) (fun c92 => ?_) (fun c92 => ?_)
              · skip
                refine lv_iload_n hx hb dX0_outside_106 rfl (lv_at hl 5 rfl) ?_
                refine lv_istore_n (lv' := [(3, .int (nI mm)), (6, .int (bI false)), (5, .int (nI (t * (v i)))), (0, .ref (ad 0)), (1, .int (nI r)), (2, .int (nI (sumTo v c))), (4, .int (nI i))]) hx hb dX0_outside_107 rfl hl (by decide) rfl (fun ls hl => ?_)
                refine lv_iinc (v := nI (i + 1)) (lv' := [(4, .int (nI (i + 1))), (3, .int (nI mm)), (6, .int (bI false)), (5, .int (nI (t * (v i)))), (0, .ref (ad 0)), (1, .int (nI r)), (2, .int (nI (sumTo v c)))]) hx hb dX0_outside_108 hl (k := 6) rfl (inc1 _) (by decide) rfl (fun ls hl => ?_)
                refine lv_goto (tgt := 29) hx hb dX0_outside_111 (by decide) ?_
                exact ih29 (i + 1) mm (by omega) (by omega) (by rw [cntB_0 (P := ouP (sh r v c t) v t (sumTo v c)) (decide_eq_false (by omega)), hmm]) _ _ h _ (lv_sub hl [4, 5, 6, 1, 0] rfl)
              · skip
                refine lv_iload hx hb dX0_outside_95 (lv_at hl 0 rfl) ?_
                refine b_if_eq (tgt := 106) hx hb dX0_outside_97 (by decide) (fun c97 => ?_) (fun c97 => absurd c97 (by decide))
                refine lv_iload_n hx hb dX0_outside_106 rfl (lv_at hl 5 rfl) ?_
                refine lv_istore_n (lv' := [(3, .int (nI mm)), (6, .int (bI false)), (5, .int (nI (t * (v i)))), (0, .ref (ad 0)), (1, .int (nI r)), (2, .int (nI (sumTo v c))), (4, .int (nI i))]) hx hb dX0_outside_107 rfl hl (by decide) rfl (fun ls hl => ?_)
                refine lv_iinc (v := nI (i + 1)) (lv' := [(4, .int (nI (i + 1))), (3, .int (nI mm)), (6, .int (bI false)), (5, .int (nI (t * (v i)))), (0, .ref (ad 0)), (1, .int (nI r)), (2, .int (nI (sumTo v c)))]) hx hb dX0_outside_108 hl (k := 6) rfl (inc1 _) (by decide) rfl (fun ls hl => ?_)
                refine lv_goto (tgt := 29) hx hb dX0_outside_111 (by decide) ?_
                exact ih29 (i + 1) mm (by omega) (by omega) (by rw [cntB_0 (P := ouP (sh r v c t) v t (sumTo v c)) (decide_eq_false (by omega)), hmm]) _ _ h _ (lv_sub hl [4, 5, 6, 1, 0] rfl)
            · skip
              refine lv_iconst (v := (bI true)) hx hb dX0_outside_84 (by decide) ?_
              refine lv_goto (tgt := 89) hx hb dX0_outside_85 (by decide) ?_
              refine lv_istore (lv' := [(6, .int (bI true)), (5, .int (nI (t * (v i)))), (0, .ref (ad 0)), (1, .int (nI r)), (2, .int (nI (sumTo v c))), (3, .int (nI mm)), (4, .int (nI i))]) hx hb dX0_outside_89 hl (by decide) rfl (fun ls hl => ?_)
              refine lv_iload_n hx hb dX0_outside_91 rfl (lv_at hl 4 rfl) ?_
              refine n_if_le (tgt := 106) hx hb dX0_outside_92 (by decide) (by omega) (fun c92 => ?_) (fun c92 => ?_)
              · skip
                refine lv_iload_n hx hb dX0_outside_106 rfl (lv_at hl 5 rfl) ?_
                refine lv_istore_n (lv' := [(3, .int (nI mm)), (6, .int (bI true)), (5, .int (nI (t * (v i)))), (0, .ref (ad 0)), (1, .int (nI r)), (2, .int (nI (sumTo v c))), (4, .int (nI i))]) hx hb dX0_outside_107 rfl hl (by decide) rfl (fun ls hl => ?_)
                refine lv_iinc (v := nI (i + 1)) (lv' := [(4, .int (nI (i + 1))), (3, .int (nI mm)), (6, .int (bI true)), (5, .int (nI (t * (v i)))), (0, .ref (ad 0)), (1, .int (nI r)), (2, .int (nI (sumTo v c)))]) hx hb dX0_outside_108 hl (k := 6) rfl (inc1 _) (by decide) rfl (fun ls hl => ?_)
                refine lv_goto (tgt := 29) hx hb dX0_outside_111 (by decide) ?_
                exact ih29 (i + 1) mm (by omega) (by omega) (by rw [cntB_0 (P := ouP (sh r v c t) v t (sumTo v c)) (decide_eq_false (by omega)), hmm]) _ _ h _ (lv_sub hl [4, 5, 6, 1, 0] rfl)
              · skip
                refine lv_iload hx hb dX0_outside_95 (lv_at hl 0 rfl) ?_
                refine b_if_eq (tgt := 106) hx hb dX0_outside_97 (by decide) (fun c97 => absurd c97 (by decide)) (fun c97 => ?_)
                refine lv_iload_n hx hb dX0_outside_100 rfl (lv_at hl 5 rfl) ?_
                refine lv_iconst (v := (nI 1)) hx hb dX0_outside_101 (by decide) ?_
                refine n_iadd hx hb dX0_outside_102 ?_
                refine lv_goto (tgt := 107) hx hb dX0_outside_103 (by decide) ?_
                refine lv_istore_n (lv' := [(3, .int (nI (mm + 1))), (6, .int (bI true)), (5, .int (nI (t * (v i)))), (0, .ref (ad 0)), (1, .int (nI r)), (2, .int (nI (sumTo v c))), (4, .int (nI i))]) hx hb dX0_outside_107 rfl hl (by decide) rfl (fun ls hl => ?_)
                refine lv_iinc (v := nI (i + 1)) (lv' := [(4, .int (nI (i + 1))), (3, .int (nI (mm + 1))), (6, .int (bI true)), (5, .int (nI (t * (v i)))), (0, .ref (ad 0)), (1, .int (nI r)), (2, .int (nI (sumTo v c)))]) hx hb dX0_outside_108 hl (k := 6) rfl (inc1 _) (by decide) rfl (fun ls hl => ?_)
                refine lv_goto (tgt := 29) hx hb dX0_outside_111 (by decide) ?_
                exact ih29 (i + 1) (mm + 1) (by omega) (by omega) (by rw [cntB_1 (P := ouP (sh r v c t) v t (sumTo v c)) (decide_eq_true (by omega)), hmm]) _ _ h _ (lv_sub hl [4, 5, 6, 1, 0] rfl)
    exact L29 _ 0 0 (Nat.lt_succ_self _) (Nat.zero_le _) rfl _ _ h _ (lv_sub hl [3, 4, 2, 1, 0] rfl)
set_option maxHeartbeats 4000000 in
theorem mX_moved (l : Launch) (D : va_G) (ad : Nat → Nat) (cI cB : ClassId) (c t : Nat) (v : Nat → Nat) (S K R O : Nat → Int32) (a b : Int32) (hc : c ≤ 6) (ht : t ≤ 30) (hv : ∀ j, j < c → v j ≤ 999) : Mi l D (tyX cI cB) (WX ad cI cB) yX0_moved cX0_moved 5 (some .int) 5 133 (ad 0) [.int a, .int b] (c, t, v, S, K, R, O) (pubX (sp_moved c t v a b)) := by
  refine Mi.of (by decide) (Nat.le_of_ble_eq_true rfl) ?_
  intro p e s m args below meth cd A ls Q G hrt h hl hret
  have G : GX D A cI cB p s m args cd cX0_moved 5 := G
  have h : HX D A ad cI cB s.heap c t v S K R O s.heap [] := h
  have hl : lv_has ls 5 [(0, .ref (ad 0)), (1, .int a), (2, .int b)] := hl
  have hx := G.1.1
  have hb := G.1.2.1
  have hv3 : ∀ j, j < c → v j ≤ 2999 := fun j hj => by have := hv j hj; omega
  have hal : sumTo v c ≤ 5994 := by have := sumTo_le hv; have h2 : c * 999 ≤ 6 * 999 := Nat.mul_le_mul_right _ hc; omega
  cases ha : ix 7 a with
  | none =>
    refine lv_aload_n hx hb dX0_moved_0 rfl (lv_at hl 0 rfl) ?_
    refine lv_iload_n hx hb dX0_moved_1 rfl (lv_at hl 1 rfl) ?_
    refine x_callr (x := nI 1) G h (mX_badRule1 l D ad cI cB c t v S K R O a ha) kX_badRule rfl ⟨Nat.le_of_ble_eq_true rfl, Nat.le_of_ble_eq_true rfl, Nat.le_refl _, Nat.le_refl _⟩ hl.1 rfl (Nat.le_of_ble_eq_true rfl) dX0_moved_2 (fun H locs h => ?_)
    refine n_if_ne (tgt := 16) hx hb dX0_moved_5 (by decide) (by omega) (fun c5 => ?_) (fun c5 => absurd c5 (by omega))
    refine lv_iconst (v := (-1)) hx hb dX0_moved_16 (by decide) ?_
    exact hret _ _ _ _ _ (c, t, v, S, K, R, O) _ h (pubX_i (by simp only [sp_moved, ha])) hrt rfl dX0_moved_17
  | some r =>
    obtain ⟨hr, rfl⟩ := ix_some (by decide) ha
    cases hb2 : ix 7 b with
    | none =>
      refine lv_aload_n hx hb dX0_moved_0 rfl (lv_at hl 0 rfl) ?_
      refine lv_iload_n hx hb dX0_moved_1 rfl (lv_at hl 1 rfl) ?_
      refine x_callr (x := nI 0) G h (mX_badRule0 l D ad cI cB c t v S K R O r (by omega)) kX_badRule rfl ⟨Nat.le_of_ble_eq_true rfl, Nat.le_of_ble_eq_true rfl, Nat.le_refl _, Nat.le_refl _⟩ hl.1 rfl (Nat.le_of_ble_eq_true rfl) dX0_moved_2 (fun H locs h => ?_)
      refine n_if_ne (tgt := 16) hx hb dX0_moved_5 (by decide) (by omega) (fun c5 => absurd c5 (by omega)) (fun c5 => ?_)
      refine lv_aload_n hx hb dX0_moved_8 rfl (lv_at hl 0 rfl) ?_
      refine lv_iload_n hx hb dX0_moved_9 rfl (lv_at hl 2 rfl) ?_
      refine x_callr (x := nI 1) G h (mX_badRule1 l D ad cI cB c t v S K R O b hb2) kX_badRule rfl ⟨Nat.le_of_ble_eq_true rfl, Nat.le_of_ble_eq_true rfl, Nat.le_refl _, Nat.le_refl _⟩ hl.1 rfl (Nat.le_of_ble_eq_true rfl) dX0_moved_10 (fun H locs h => ?_)
      refine n_if_eq (tgt := 18) hx hb dX0_moved_13 (by decide) (by omega) (fun c13 => absurd c13 (by omega)) (fun c13 => ?_)
      refine lv_iconst (v := (-1)) hx hb dX0_moved_16 (by decide) ?_
      exact hret _ _ _ _ _ (c, t, v, S, K, R, O) _ h (pubX_i (by simp only [sp_moved, ha, hb2])) hrt rfl dX0_moved_17
    | some q =>
      obtain ⟨hq, rfl⟩ := ix_some (by decide) hb2
      refine lv_aload_n hx hb dX0_moved_0 rfl (lv_at hl 0 rfl) ?_
      refine lv_iload_n hx hb dX0_moved_1 rfl (lv_at hl 1 rfl) ?_
      refine x_callr (x := nI 0) G h (mX_badRule0 l D ad cI cB c t v S K R O r (by omega)) kX_badRule rfl ⟨Nat.le_of_ble_eq_true rfl, Nat.le_of_ble_eq_true rfl, Nat.le_refl _, Nat.le_refl _⟩ hl.1 rfl (Nat.le_of_ble_eq_true rfl) dX0_moved_2 (fun H locs h => ?_)
      refine n_if_ne (tgt := 16) hx hb dX0_moved_5 (by decide) (by omega) (fun c5 => absurd c5 (by omega)) (fun c5 => ?_)
      refine lv_aload_n hx hb dX0_moved_8 rfl (lv_at hl 0 rfl) ?_
      refine lv_iload_n hx hb dX0_moved_9 rfl (lv_at hl 2 rfl) ?_
      refine x_callr (x := nI 0) G h (mX_badRule0 l D ad cI cB c t v S K R O q (by omega)) kX_badRule rfl ⟨Nat.le_of_ble_eq_true rfl, Nat.le_of_ble_eq_true rfl, Nat.le_refl _, Nat.le_refl _⟩ hl.1 rfl (Nat.le_of_ble_eq_true rfl) dX0_moved_10 (fun H locs h => ?_)
      refine n_if_eq (tgt := 18) hx hb dX0_moved_13 (by decide) (by omega) (fun c13 => ?_) (fun c13 => absurd c13 (by omega))
      refine lv_aload_n hx hb dX0_moved_18 rfl (lv_at hl 0 rfl) ?_
      refine lv_iload_n hx hb dX0_moved_19 rfl (lv_at hl 1 rfl) ?_
      refine lv_aload_n hx hb dX0_moved_20 rfl (lv_at hl 0 rfl) ?_
      refine x_getT G h dX0_moved_21 ?_
      refine x_callv G h (mX_shareOut l D ad cI cB c t v S K R O r t (by omega) hc hv3 (by omega)) kX_shareOut rfl ⟨Nat.le_of_ble_eq_true rfl, Nat.le_of_ble_eq_true rfl, Nat.le_refl _, Nat.le_refl _⟩ hl.1 rfl (Nat.le_of_ble_eq_true rfl) dX0_moved_24 (fun c1 t1 v1 Sa1 K1 Ra1 Oa1 H locs hp h => ?_)
      obtain ⟨S2, R2, O2, e1, hSa1⟩ := hp
      cases e1
      refine lv_aload_n hx hb dX0_moved_27 rfl (lv_at hl 0 rfl) ?_
      refine x_callv G h (mX_keepShares l D ad cI cB c t v Sa1 K Ra1 Oa1 hc) kX_keepShares rfl ⟨Nat.le_of_ble_eq_true rfl, Nat.le_of_ble_eq_true rfl, Nat.le_refl _, Nat.le_refl _⟩ hl.1 rfl (Nat.le_of_ble_eq_true rfl) dX0_moved_28 (fun c1 t1 v1 S1 Ka R1 O1 H locs hp h => ?_)
      obtain ⟨K2, e1, hKa⟩ := hp
      cases e1
      refine lv_aload_n hx hb dX0_moved_31 rfl (lv_at hl 0 rfl) ?_
      refine lv_iload_n hx hb dX0_moved_32 rfl (lv_at hl 2 rfl) ?_
      refine lv_aload_n hx hb dX0_moved_33 rfl (lv_at hl 0 rfl) ?_
      refine x_getT G h dX0_moved_34 ?_
      refine x_callv G h (mX_shareOut l D ad cI cB c t v Sa1 Ka Ra1 Oa1 q t (by omega) hc hv3 (by omega)) kX_shareOut rfl ⟨Nat.le_of_ble_eq_true rfl, Nat.le_of_ble_eq_true rfl, Nat.le_refl _, Nat.le_refl _⟩ hl.1 rfl (Nat.le_of_ble_eq_true rfl) dX0_moved_37 (fun c1 t1 v1 Sa2 K1 Ra2 Oa2 H locs hp h => ?_)
      obtain ⟨S2, R2, O2, e1, hSa2⟩ := hp
      cases e1
      refine lv_iconst (v := (nI 0)) hx hb dX0_moved_40 (by decide) ?_
      refine lv_istore_n (lv' := [(3, .int (nI 0)), (0, .ref (ad 0)), (1, .int (nI r)), (2, .int (nI q))]) hx hb dX0_moved_41 rfl hl (by decide) rfl (fun ls hl => ?_)
      refine lv_iconst (v := (nI 0)) hx hb dX0_moved_42 (by decide) ?_
      refine lv_istore (lv' := [(4, .int (nI 0)), (3, .int (nI 0)), (0, .ref (ad 0)), (1, .int (nI r)), (2, .int (nI q))]) hx hb dX0_moved_43 hl (by decide) rfl (fun ls hl => ?_)
      have L45 : ∀ (n45 : Nat) (i : Nat) (sm : Nat), c - i < n45 → (i ≤ c) → (sm = sumTo (fun i => sh q v c t i - sh r v c t i) i) → ∀ (H : Heap) (locs : List Loc), HX D A ad cI cB s.heap c t v Sa2 Ka Ra2 Oa2 H locs → ∀ (ls : Array Slot), lv_has ls 5 [(0, .ref (ad 0)), (1, .int (nI r)), (2, .int (nI q)), (3, .int (nI sm)), (4, .int (nI i))] → W p l e (rmm 5 133) s m args below meth cd H locs 0 0 Q (F0 m 45 ls []) := by
        intro n45
        induction n45 with
        | zero =>
          intro i sm hm
          exact absurd hm (Nat.not_lt_zero _)
        | succ n45 ih45 =>
          intro i sm hm45 hi hsm H locs h ls hl
          refine lv_iload hx hb dX0_moved_45 (lv_at hl 4 rfl) ?_
          refine lv_aload_n hx hb dX0_moved_47 rfl (lv_at hl 0 rfl) ?_
          refine x_getC G h dX0_moved_48 ?_
          refine n_icmp_ge (tgt := 99) hx hb dX0_moved_51 (by decide) (by omega) (by omega) (fun c51 => ?_) (fun c51 => ?_)
          · skip
            refine lv_iload_n hx hb dX0_moved_99 rfl (lv_at hl 3 rfl) ?_
            exact hret _ _ _ _ _ (c, t, v, Sa2, Ka, Ra2, Oa2) _ h (pubX_i (by rw [hsm, show i = c by omega]; simp only [sp_moved, ha, hb2])) hrt rfl dX0_moved_100
          · skip
            refine lv_aload_n hx hb dX0_moved_54 rfl (lv_at hl 0 rfl) ?_
            refine x_getS G h dX0_moved_55 ?_
            refine lv_iload hx hb dX0_moved_58 (lv_at hl 4 rfl) ?_
            refine x_ldS (x := (nI (sh q v c t i))) G h (by omega) (hSa2 i (by omega)) dX0_moved_60 ?_
            refine lv_aload_n hx hb dX0_moved_61 rfl (lv_at hl 0 rfl) ?_
            refine x_getK G h dX0_moved_62 ?_
            refine lv_iload hx hb dX0_moved_65 (lv_at hl 4 rfl) ?_
            refine x_ldK (x := (nI (sh r v c t i))) G h (by omega) ((hKa i (by omega)).trans (hSa1 i (by omega))) dX0_moved_67 ?_
            refine n_icmp_le (tgt := 91) hx hb dX0_moved_68 (by decide) (by have q1 := sh_le (r := q) (v := v) (n := t) (show i < c by omega); omega) (by have q1 := sh_le (r := r) (v := v) (n := t) (show i < c by omega); omega) (fun c68 => ?_) (fun c68 => ?_)
            · skip
              refine lv_iload_n hx hb dX0_moved_91 rfl (lv_at hl 3 rfl) ?_
              refine lv_istore_n (lv' := [(3, .int (nI sm)), (0, .ref (ad 0)), (1, .int (nI r)), (2, .int (nI q)), (4, .int (nI i))]) hx hb dX0_moved_92 rfl hl (by decide) rfl (fun ls hl => ?_)
              refine lv_iinc (v := nI (i + 1)) (lv' := [(4, .int (nI (i + 1))), (3, .int (nI sm)), (0, .ref (ad 0)), (1, .int (nI r)), (2, .int (nI q))]) hx hb dX0_moved_93 hl (k := 4) rfl (inc1 _) (by decide) rfl (fun ls hl => ?_)
              refine lv_goto (tgt := 45) hx hb dX0_moved_96 (by decide) ?_
              exact ih45 (i + 1) sm (by omega) (by omega) (by have e1 : sumTo (fun i => sh q v c t i - sh r v c t i) (i + 1) = sumTo (fun i => sh q v c t i - sh r v c t i) i + (sh q v c t i - sh r v c t i) := rfl; omega) _ _ h _ (lv_sub hl [2, 3, 4, 1, 0] rfl)
            · skip
              refine lv_iload_n hx hb dX0_moved_71 rfl (lv_at hl 3 rfl) ?_
              refine lv_aload_n hx hb dX0_moved_72 rfl (lv_at hl 0 rfl) ?_
              refine x_getS G h dX0_moved_73 ?_
              refine lv_iload hx hb dX0_moved_76 (lv_at hl 4 rfl) ?_
              refine x_ldS (x := (nI (sh q v c t i))) G h (by omega) (hSa2 i (by omega)) dX0_moved_78 ?_
              refine n_iadd hx hb dX0_moved_79 ?_
              refine lv_aload_n hx hb dX0_moved_80 rfl (lv_at hl 0 rfl) ?_
              refine x_getK G h dX0_moved_81 ?_
              refine lv_iload hx hb dX0_moved_84 (lv_at hl 4 rfl) ?_
              refine x_ldK (x := (nI (sh r v c t i))) G h (by omega) ((hKa i (by omega)).trans (hSa1 i (by omega))) dX0_moved_86 ?_
              refine n_isub hx hb dX0_moved_87 (by omega) ?_
              refine lv_goto (tgt := 92) hx hb dX0_moved_88 (by decide) ?_
              refine lv_istore_n (lv' := [(3, .int (nI ((sm + (sh q v c t i)) - (sh r v c t i)))), (0, .ref (ad 0)), (1, .int (nI r)), (2, .int (nI q)), (4, .int (nI i))]) hx hb dX0_moved_92 rfl hl (by decide) rfl (fun ls hl => ?_)
              refine lv_iinc (v := nI (i + 1)) (lv' := [(4, .int (nI (i + 1))), (3, .int (nI ((sm + (sh q v c t i)) - (sh r v c t i)))), (0, .ref (ad 0)), (1, .int (nI r)), (2, .int (nI q))]) hx hb dX0_moved_93 hl (k := 4) rfl (inc1 _) (by decide) rfl (fun ls hl => ?_)
              refine lv_goto (tgt := 45) hx hb dX0_moved_96 (by decide) ?_
              exact ih45 (i + 1) ((sm + (sh q v c t i)) - (sh r v c t i)) (by omega) (by omega) (by have e1 : sumTo (fun i => sh q v c t i - sh r v c t i) (i + 1) = sumTo (fun i => sh q v c t i - sh r v c t i) i + (sh q v c t i - sh r v c t i) := rfl; omega) _ _ h _ (lv_sub hl [2, 3, 4, 1, 0] rfl)
      exact L45 _ 0 0 (Nat.lt_succ_self _) (Nat.zero_le _) rfl _ _ h _ (lv_sub hl [2, 3, 4, 1, 0] rfl)
set_option maxHeartbeats 4000000 in
theorem mX_majority (l : Launch) (D : va_G) (ad : Nat → Nat) (cI cB : ClassId) (c t : Nat) (v : Nat → Nat) (S K R O : Nat → Int32) (a : Int32) (hc : c ≤ 6) (ht : t ≤ 30) (hv : ∀ j, j < c → v j ≤ 999) : Mi l D (tyX cI cB) (WX ad cI cB) yX0_majority cX0_majority 7 (some .int) 5 133 (ad 0) [.int a] (c, t, v, S, K, R, O) (pubX (sp_majority c t v a)) := by
  refine Mi.of (by decide) (Nat.le_of_ble_eq_true rfl) ?_
  intro p e s m args below meth cd A ls Q G hrt h hl hret
  have G : GX D A cI cB p s m args cd cX0_majority 7 := G
  have h : HX D A ad cI cB s.heap c t v S K R O s.heap [] := h
  have hl : lv_has ls 7 [(0, .ref (ad 0)), (1, .int a)] := hl
  have hx := G.1.1
  have hb := G.1.2.1
  have hv3 : ∀ j, j < c → v j ≤ 2999 := fun j hj => by have := hv j hj; omega
  have hal : sumTo v c ≤ 5994 := by have := sumTo_le hv; have h2 : c * 999 ≤ 6 * 999 := Nat.mul_le_mul_right _ hc; omega
  cases ha : ix 7 a with
  | none =>
    refine lv_aload_n hx hb dX0_majority_0 rfl (lv_at hl 0 rfl) ?_
    refine lv_iload_n hx hb dX0_majority_1 rfl (lv_at hl 1 rfl) ?_
    refine x_callr (x := nI 1) G h (mX_badRule1 l D ad cI cB c t v S K R O a ha) kX_badRule rfl ⟨Nat.le_of_ble_eq_true rfl, Nat.le_of_ble_eq_true rfl, Nat.le_refl _, Nat.le_refl _⟩ hl.1 rfl (Nat.le_of_ble_eq_true rfl) dX0_majority_2 (fun H locs h => ?_)
    refine n_if_eq (tgt := 10) hx hb dX0_majority_5 (by decide) (by omega) (fun c5 => absurd c5 (by omega)) (fun c5 => ?_)
    refine lv_iconst (v := (-1)) hx hb dX0_majority_8 (by decide) ?_
    exact hret _ _ _ _ _ (c, t, v, S, K, R, O) _ h (pubX_i (by simp only [sp_majority, ha])) hrt rfl dX0_majority_9
  | some r =>
    obtain ⟨hr, rfl⟩ := ix_some (by decide) ha
    refine lv_aload_n hx hb dX0_majority_0 rfl (lv_at hl 0 rfl) ?_
    refine lv_iload_n hx hb dX0_majority_1 rfl (lv_at hl 1 rfl) ?_
    refine x_callr (x := nI 0) G h (mX_badRule0 l D ad cI cB c t v S K R O r (by omega)) kX_badRule rfl ⟨Nat.le_of_ble_eq_true rfl, Nat.le_of_ble_eq_true rfl, Nat.le_refl _, Nat.le_refl _⟩ hl.1 rfl (Nat.le_of_ble_eq_true rfl) dX0_majority_2 (fun H locs h => ?_)
    refine n_if_eq (tgt := 10) hx hb dX0_majority_5 (by decide) (by omega) (fun c5 => ?_) (fun c5 => absurd c5 (by omega))
    refine lv_aload_n hx hb dX0_majority_10 rfl (lv_at hl 0 rfl) ?_
    refine lv_iload_n hx hb dX0_majority_11 rfl (lv_at hl 1 rfl) ?_
    refine lv_aload_n hx hb dX0_majority_12 rfl (lv_at hl 0 rfl) ?_
    refine x_getT G h dX0_majority_13 ?_
    refine x_callv G h (mX_shareOut l D ad cI cB c t v S K R O r t (by omega) hc hv3 (by omega)) kX_shareOut rfl ⟨Nat.le_of_ble_eq_true rfl, Nat.le_of_ble_eq_true rfl, Nat.le_refl _, Nat.le_refl _⟩ hl.1 rfl (Nat.le_of_ble_eq_true rfl) dX0_majority_16 (fun c1 t1 v1 Sa1 K1 Ra1 Oa1 H locs hp h => ?_)
    obtain ⟨S2, R2, O2, e1, hSa1⟩ := hp
    cases e1
    refine lv_iconst (v := (nI 0)) hx hb dX0_majority_19 (by decide) ?_
    refine lv_istore_n (lv' := [(2, .int (nI 0)), (0, .ref (ad 0)), (1, .int (nI r))]) hx hb dX0_majority_20 rfl hl (by decide) rfl (fun ls hl => ?_)
    refine lv_iconst (v := (nI 0)) hx hb dX0_majority_21 (by decide) ?_
    refine lv_istore_n (lv' := [(3, .int (nI 0)), (2, .int (nI 0)), (0, .ref (ad 0)), (1, .int (nI r))]) hx hb dX0_majority_22 rfl hl (by decide) rfl (fun ls hl => ?_)
    have L23 : ∀ (n23 : Nat) (i : Nat), c - i < n23 → (i ≤ c) → ∀ (H : Heap) (locs : List Loc), HX D A ad cI cB s.heap c t v Sa1 K Ra1 Oa1 H locs → ∀ (ls : Array Slot), lv_has ls 7 [(0, .ref (ad 0)), (1, .int (nI r)), (2, .int (nI (sumTo (sh r v c t) i))), (3, .int (nI i))] → W p l e (rmm 5 133) s m args below meth cd H locs 0 0 Q (F0 m 23 ls []) := by
      intro n23
      induction n23 with
      | zero =>
        intro i hm
        exact absurd hm (Nat.not_lt_zero _)
      | succ n23 ih23 =>
        intro i hm23 hi H locs h ls hl
        refine lv_iload_n hx hb dX0_majority_23 rfl (lv_at hl 3 rfl) ?_
        refine lv_aload_n hx hb dX0_majority_24 rfl (lv_at hl 0 rfl) ?_
        refine x_getC G h dX0_majority_25 ?_
        refine n_icmp_ge (tgt := 46) hx hb dX0_majority_28 (by decide) (by omega) (by omega) (fun c28 => ?_) (fun c28 => ?_)
        · skip
          refine lv_iconst (v := (nI 0)) hx hb dX0_majority_46 (by decide) ?_
          refine lv_istore_n (lv' := [(3, .int (nI 0)), (0, .ref (ad 0)), (1, .int (nI r)), (2, .int (nI (sumTo (sh r v c t) i)))]) hx hb dX0_majority_47 rfl hl (by decide) rfl (fun ls hl => ?_)
          refine lv_iconst (v := (nI 0)) hx hb dX0_majority_48 (by decide) ?_
          refine lv_istore (lv' := [(4, .int (nI 0)), (3, .int (nI 0)), (0, .ref (ad 0)), (1, .int (nI r)), (2, .int (nI (sumTo (sh r v c t) i)))]) hx hb dX0_majority_49 hl (by decide) rfl (fun ls hl => ?_)
          have hic : i = c := by omega
          have htt := sh_tot (r := r) (v := v) (c := c) (n := t)
          have hl : lv_has ls 7 [(4, .int (nI 0)), (3, .int (nI 0)), (0, .ref (ad 0)), (1, .int (nI r)), (2, .int (nI (sumTo (sh r v c t) c)))] := by rw [← hic]; rw [← hic] at hl; exact hl
          have L51 : ∀ (n51 : Nat) (wf : Nat → Nat) (hv1 : Nat) (mn : Nat) (F : Nat → Int32), c - mn < n51 → (∀ j, j < c → F j = pm (wf j)) → (mn ≤ c) → (cntP wf c + mn = c) → (∀ j, j < c → wf j ≤ 31) → (hv1 ≤ 30 * mn) → (mjX c (sumTo (sh r v c t) c) (c + 1 - mn) wf hv1 mn = mjX c (sumTo (sh r v c t) c) (c + 1) (fun j => sh r v c t j + 1) 0 0) → ∀ (H : Heap) (locs : List Loc), HX D A ad cI cB s.heap c t v F K Ra1 Oa1 H locs → ∀ (ls : Array Slot), lv_has ls 7 [(0, .ref (ad 0)), (1, .int (nI r)), (2, .int (nI (sumTo (sh r v c t) c))), (3, .int (nI hv1)), (4, .int (nI mn))] → W p l e (rmm 5 133) s m args below meth cd H locs 0 0 Q (F0 m 51 ls []) := by
            intro n51
            induction n51 with
            | zero =>
              intro wf hv1 mn F hm
              exact absurd hm (Nat.not_lt_zero _)
            | succ n51 ih51 =>
              intro wf hv1 mn F hm51 hF hmn hcn hw31 hhv hres H locs h ls hl
              refine lv_iconst (v := (nI 2)) hx hb dX0_majority_51 (by decide) ?_
              refine lv_iload_n hx hb dX0_majority_52 rfl (lv_at hl 3 rfl) ?_
              refine n_imul hx hb dX0_majority_53 ?_
              refine lv_iload_n hx hb dX0_majority_54 rfl (lv_at hl 2 rfl) ?_
              refine n_icmp_gt (tgt := 138) hx hb dX0_majority_55 (by decide) (by omega) (by omega) (fun c55 => ?_) (fun c55 => ?_)
              · skip
                refine lv_iload_n hx hb dX0_majority_138 rfl (lv_at hl 2 rfl) ?_
                refine n_if_ne (tgt := 146) hx hb dX0_majority_139 (by decide) (by omega) (fun c139 => ?_) (fun c139 => ?_)
                · skip
                  refine lv_iload hx hb dX0_majority_146 (lv_at hl 4 rfl) ?_
                  exact hret _ _ _ _ _ (c, t, v, F, K, Ra1, Oa1) _ h (pubX_i (by simp only [sp_majority, ha]; rw [if_neg (by omega), ← hres, mjX_stop (by omega) (by omega)])) hrt rfl dX0_majority_148
                · skip
                  refine lv_iconst (v := (nI 0)) hx hb dX0_majority_142 (by decide) ?_
                  refine lv_goto (tgt := 148) hx hb dX0_majority_143 (by decide) ?_
                  exact hret _ _ _ _ _ (c, t, v, F, K, Ra1, Oa1) _ h (pubX_i (by simp only [sp_majority, ha]; rw [if_pos c139])) hrt rfl dX0_majority_148
              · skip
                refine lv_iload hx hb dX0_majority_58 (lv_at hl 4 rfl) ?_
                refine lv_aload_n hx hb dX0_majority_60 rfl (lv_at hl 0 rfl) ?_
                refine x_getC G h dX0_majority_61 ?_
                refine n_icmp_ge (tgt := 138) hx hb dX0_majority_64 (by decide) (by omega) (by omega) (fun c64 => ?_) (fun c64 => ?_)
                · skip
                  refine lv_iload_n hx hb dX0_majority_138 rfl (lv_at hl 2 rfl) ?_
                  refine n_if_ne (tgt := 146) hx hb dX0_majority_139 (by decide) (by omega) (fun c139 => ?_) (fun c139 => ?_)
                  · skip
                    refine lv_iload hx hb dX0_majority_146 (lv_at hl 4 rfl) ?_
                    exact hret _ _ _ _ _ (c, t, v, F, K, Ra1, Oa1) _ h (pubX_i (by simp only [sp_majority, ha]; rw [if_neg (by omega), ← hres, mjX_stop (by omega) (by omega)])) hrt rfl dX0_majority_148
                  · skip
                    refine lv_iconst (v := (nI 0)) hx hb dX0_majority_142 (by decide) ?_
                    refine lv_goto (tgt := 148) hx hb dX0_majority_143 (by decide) ?_
                    exact hret _ _ _ _ _ (c, t, v, F, K, Ra1, Oa1) _ h (pubX_i (by simp only [sp_majority, ha]; rw [if_pos c139])) hrt rfl dX0_majority_148
                · skip
                  refine lv_iconst (v := (nI 0)) hx hb dX0_majority_67 (by decide) ?_
                  refine lv_istore (lv' := [(5, .int (nI 0)), (0, .ref (ad 0)), (1, .int (nI r)), (2, .int (nI (sumTo (sh r v c t) c))), (3, .int (nI hv1)), (4, .int (nI mn))]) hx hb dX0_majority_68 hl (by decide) rfl (fun ls hl => ?_)
                  refine lv_iconst (v := (nI 0)) hx hb dX0_majority_70 (by decide) ?_
                  refine lv_istore (lv' := [(6, .int (nI 0)), (5, .int (nI 0)), (0, .ref (ad 0)), (1, .int (nI r)), (2, .int (nI (sumTo (sh r v c t) c))), (3, .int (nI hv1)), (4, .int (nI mn))]) hx hb dX0_majority_71 hl (by decide) rfl (fun ls hl => ?_)
                  have L73 : ∀ (n73 : Nat) (i2 : Nat) (bb : Nat), c - i2 < n73 → (i2 ≤ c) → (bb = bxM wf i2) → ∀ (H : Heap) (locs : List Loc), HX D A ad cI cB s.heap c t v F K Ra1 Oa1 H locs → ∀ (ls : Array Slot), lv_has ls 7 [(0, .ref (ad 0)), (1, .int (nI r)), (2, .int (nI (sumTo (sh r v c t) c))), (3, .int (nI hv1)), (4, .int (nI mn)), (5, .int (nI bb)), (6, .int (nI i2))] → W p l e (rmm 5 133) s m args below meth cd H locs 0 0 Q (F0 m 73 ls []) := by
                    intro n73
                    induction n73 with
                    | zero =>
                      intro i2 bb hm
                      exact absurd hm (Nat.not_lt_zero _)
                    | succ n73 ih73 =>
                      intro i2 bb hm73 hi2 hbb H locs h ls hl
                      have hbc : bb < c := by rw [hbb]; exact bxM_lt hi2 (by omega)
                      refine lv_iload hx hb dX0_majority_73 (lv_at hl 6 rfl) ?_
                      refine lv_aload_n hx hb dX0_majority_75 rfl (lv_at hl 0 rfl) ?_
                      refine x_getC G h dX0_majority_76 ?_
                      refine n_icmp_ge (tgt := 114) hx hb dX0_majority_79 (by decide) (by omega) (by omega) (fun c79 => ?_) (fun c79 => ?_)
                      · skip
                        have hbe : bb = bxM wf c := by rw [hbb, show i2 = c by omega]
                        have hwb : 0 < wf bb := by rw [hbe]; exact bxM_pos (by omega)
                        refine lv_iload_n hx hb dX0_majority_114 rfl (lv_at hl 3 rfl) ?_
                        refine lv_aload_n hx hb dX0_majority_115 rfl (lv_at hl 0 rfl) ?_
                        refine x_getS G h dX0_majority_116 ?_
                        refine lv_iload hx hb dX0_majority_119 (lv_at hl 5 rfl) ?_
                        refine x_ldS (x := (nI (wf bb - 1))) G h (by omega) ((hF _ hbc).trans (pm_pos hwb)) dX0_majority_121 ?_
                        refine n_iadd hx hb dX0_majority_122 ?_
                        refine lv_istore_n (lv' := [(3, .int (nI (hv1 + (wf bb - 1)))), (0, .ref (ad 0)), (1, .int (nI r)), (2, .int (nI (sumTo (sh r v c t) c))), (4, .int (nI mn)), (5, .int (nI bb)), (6, .int (nI i2))]) hx hb dX0_majority_123 rfl hl (by decide) rfl (fun ls hl => ?_)
                        refine lv_aload_n hx hb dX0_majority_124 rfl (lv_at hl 1 rfl) ?_
                        refine x_getS G h dX0_majority_125 ?_
                        refine lv_iload hx hb dX0_majority_128 (lv_at hl 5 rfl) ?_
                        refine lv_iconst (v := (-1)) hx hb dX0_majority_130 (by decide) ?_
                        refine x_stS (S' := upd F bb (-1)) G h (by omega) rfl dX0_majority_131 (fun H locs h => ?_)
                        refine lv_iinc (v := nI (mn + 1)) (lv' := [(4, .int (nI (mn + 1))), (3, .int (nI (hv1 + (wf bb - 1)))), (0, .ref (ad 0)), (1, .int (nI r)), (2, .int (nI (sumTo (sh r v c t) c))), (5, .int (nI bb)), (6, .int (nI i2))]) hx hb dX0_majority_132 hl (k := 4) rfl (inc1 _) (by decide) rfl (fun ls hl => ?_)
                        refine lv_goto (tgt := 51) hx hb dX0_majority_135 (by decide) ?_
                        exact ih51 (va_up wf bb 0) (hv1 + (wf bb - 1)) (mn + 1) (upd F bb (-1)) (by omega) (pm_put hF) (by omega) (by have := cntP_up (v := wf) hbc hwb; omega) (up_le hw31 (by omega)) (by have := hw31 bb hbc; omega) (by rw [← hres, mjX_go c64 c55, ← hbe]) _ _ h _ (lv_sub hl [2, 3, 4, 1, 0] rfl)
                      · skip
                        refine lv_aload_n hx hb dX0_majority_82 rfl (lv_at hl 0 rfl) ?_
                        refine x_getS G h dX0_majority_83 ?_
                        refine lv_iload hx hb dX0_majority_86 (lv_at hl 6 rfl) ?_
                        refine x_ldS (x := (pm (wf i2))) G h (by omega) (hF _ (by omega)) dX0_majority_88 ?_
                        refine lv_aload_n hx hb dX0_majority_89 rfl (lv_at hl 0 rfl) ?_
                        refine x_getS G h dX0_majority_90 ?_
                        refine lv_iload hx hb dX0_majority_93 (lv_at hl 5 rfl) ?_
                        refine x_ldS (x := (pm (wf bb))) G h (by omega) (hF _ (by omega)) dX0_majority_95 ?_
                        refine lv_icmp_le (tgt := 104) hx hb dX0_majority_96 (by decide) (fun c96 => ?_) (fun c96 => ?_)
                        · skip
                          have q3 := hw31 i2 (by omega)
                          have q4 := hw31 bb hbc
                          have c96 : wf i2 ≤ wf bb := (pm_le (by omega) (by omega)).mp c96
                          refine lv_iload hx hb dX0_majority_104 (lv_at hl 5 rfl) ?_
                          refine lv_istore (lv' := [(5, .int (nI bb)), (0, .ref (ad 0)), (1, .int (nI r)), (2, .int (nI (sumTo (sh r v c t) c))), (3, .int (nI hv1)), (4, .int (nI mn)), (6, .int (nI i2))]) hx hb dX0_majority_106 hl (by decide) rfl (fun ls hl => ?_)
                          refine lv_iinc (v := nI (i2 + 1)) (lv' := [(6, .int (nI (i2 + 1))), (5, .int (nI bb)), (0, .ref (ad 0)), (1, .int (nI r)), (2, .int (nI (sumTo (sh r v c t) c))), (3, .int (nI hv1)), (4, .int (nI mn))]) hx hb dX0_majority_108 hl (k := 6) rfl (inc1 _) (by decide) rfl (fun ls hl => ?_)
                          refine lv_goto (tgt := 73) hx hb dX0_majority_111 (by decide) ?_
                          exact ih73 (i2 + 1) bb (by omega) (by omega) (by rw [bxM_s, ← hbb, if_neg (by omega)]) _ _ h _ (lv_sub hl [2, 3, 4, 5, 6, 1, 0] rfl)
                        · skip
                          have q3 := hw31 i2 (by omega)
                          have q4 := hw31 bb hbc
                          have c96 : wf bb < wf i2 := Nat.not_le.mp (fun q => c96 ((pm_le (by omega) (by omega)).mpr q))
                          refine lv_iload hx hb dX0_majority_99 (lv_at hl 6 rfl) ?_
                          refine lv_goto (tgt := 106) hx hb dX0_majority_101 (by decide) ?_
                          refine lv_istore (lv' := [(5, .int (nI i2)), (0, .ref (ad 0)), (1, .int (nI r)), (2, .int (nI (sumTo (sh r v c t) c))), (3, .int (nI hv1)), (4, .int (nI mn)), (6, .int (nI i2))]) hx hb dX0_majority_106 hl (by decide) rfl (fun ls hl => ?_)
                          refine lv_iinc (v := nI (i2 + 1)) (lv' := [(6, .int (nI (i2 + 1))), (5, .int (nI i2)), (0, .ref (ad 0)), (1, .int (nI r)), (2, .int (nI (sumTo (sh r v c t) c))), (3, .int (nI hv1)), (4, .int (nI mn))]) hx hb dX0_majority_108 hl (k := 6) rfl (inc1 _) (by decide) rfl (fun ls hl => ?_)
                          refine lv_goto (tgt := 73) hx hb dX0_majority_111 (by decide) ?_
                          exact ih73 (i2 + 1) i2 (by omega) (by omega) (by rw [bxM_s, ← hbb, if_pos c96]) _ _ h _ (lv_sub hl [2, 3, 4, 5, 6, 1, 0] rfl)
                  exact L73 _ 0 0 (Nat.lt_succ_self _) (Nat.zero_le _) rfl _ _ h _ (lv_sub hl [2, 3, 4, 5, 6, 1, 0] rfl)
          exact L51 _ (fun j => sh r v c t j + 1) 0 0 Sa1 (Nat.lt_succ_self _) (fun j hj => by rw [hSa1 j hj]; exact (pm_1 _).symm) (Nat.zero_le _) (by rw [cntP_all (fun j _ => Nat.succ_pos _)]; rfl) (fun j hj => by have := sh_le (r := r) (v := v) (n := t) hj; show sh r v c t j + 1 ≤ 31; omega) (Nat.zero_le _) rfl _ _ h _ (lv_sub hl [2, 3, 4, 1, 0] rfl)
        · skip
          refine lv_iload_n hx hb dX0_majority_31 rfl (lv_at hl 2 rfl) ?_
          refine lv_aload_n hx hb dX0_majority_32 rfl (lv_at hl 0 rfl) ?_
          refine x_getS G h dX0_majority_33 ?_
          refine lv_iload_n hx hb dX0_majority_36 rfl (lv_at hl 3 rfl) ?_
          refine x_ldS (x := (nI (sh r v c t i))) G h (by omega) (hSa1 i (by omega)) dX0_majority_37 ?_
          refine n_iadd hx hb dX0_majority_38 ?_
          refine lv_istore_n (lv' := [(2, .int (nI ((sumTo (sh r v c t) i) + (sh r v c t i)))), (0, .ref (ad 0)), (1, .int (nI r)), (3, .int (nI i))]) hx hb dX0_majority_39 rfl hl (by decide) rfl (fun ls hl => ?_)
          refine lv_iinc (v := nI (i + 1)) (lv' := [(3, .int (nI (i + 1))), (2, .int (nI ((sumTo (sh r v c t) i) + (sh r v c t i)))), (0, .ref (ad 0)), (1, .int (nI r))]) hx hb dX0_majority_40 hl (k := 3) rfl (inc1 _) (by decide) rfl (fun ls hl => ?_)
          refine lv_goto (tgt := 23) hx hb dX0_majority_43 (by decide) ?_
          exact ih23 (i + 1) (by omega) (by omega) _ _ h _ (lv_sub hl [2, 3, 1, 0] rfl)
    exact L23 _ 0 (Nat.lt_succ_self _) (by omega) _ _ h _ (lv_sub hl [2, 3, 1, 0] rfl)
end
section
set_option maxRecDepth 100000
/-! ===== the order of quotients, and what is on top of it ===== -/
def bq (a x i b y j : Nat) : Prop := ((a = 0 ∨ b = 0) ∧ ((a = b ∧ x = y ∧ i < j) ∨ (a = b ∧ y < x) ∨ (a ≠ b ∧ a = 0))) ∨ (a ≠ 0 ∧ b ≠ 0 ∧ ((x * b = y * a ∧ i < j) ∨ y * a < x * b))
theorem bef_iff {r : Nat} {v : Nat → Nat} {i k j l : Nat} : bef r v i k j l = true ↔ bq (dv r k) (wo r v i) i (dv r l) (wo r v j) j := by
  unfold bef bq
  (repeat' split) <;> (rw [decide_eq_true_iff]; omega)
theorem bq_asym {a x i b y j : Nat} (h : bq a x i b y j) (h2 : bq b y j a x i) : False := by
  unfold bq at h h2
  omega
theorem bq_total {a x i b y j : Nat} (h : i ≠ j) : bq a x i b y j ∨ bq b y j a x i := by
  unfold bq
  omega
theorem cross {x y z a b c : Nat} (hb : 0 < b) (h1 : y * a ≤ x * b) (h2 : z * b ≤ y * c) : z * a ≤ x * c := by
  have e1 : y * a * c ≤ x * b * c := Nat.mul_le_mul_right c h1
  have e2 : z * b * a ≤ y * c * a := Nat.mul_le_mul_right a h2
  have e3 : z * b * a = z * a * b := by rw [Nat.mul_assoc, Nat.mul_comm b a, ← Nat.mul_assoc]
  have e4 : y * c * a = y * a * c := by rw [Nat.mul_assoc, Nat.mul_comm c a, ← Nat.mul_assoc]
  have e5 : x * b * c = x * c * b := by rw [Nat.mul_assoc, Nat.mul_comm b c, ← Nat.mul_assoc]
  have e6 : z * a * b ≤ x * c * b := by omega
  exact Nat.le_of_mul_le_mul_right e6 hb
theorem cross1 {x y z a b c : Nat} (hb : 0 < b) (hc : 0 < c) (h1 : y * a < x * b) (h2 : z * b ≤ y * c) : z * a < x * c := by
  have e1 : y * a * c < x * b * c := Nat.mul_lt_mul_of_pos_right h1 hc
  have e2 : z * b * a ≤ y * c * a := Nat.mul_le_mul_right a h2
  have e3 : z * b * a = z * a * b := by rw [Nat.mul_assoc, Nat.mul_comm b a, ← Nat.mul_assoc]
  have e4 : y * c * a = y * a * c := by rw [Nat.mul_assoc, Nat.mul_comm c a, ← Nat.mul_assoc]
  have e5 : x * b * c = x * c * b := by rw [Nat.mul_assoc, Nat.mul_comm b c, ← Nat.mul_assoc]
  have e6 : z * a * b < x * c * b := by omega
  exact Nat.lt_of_mul_lt_mul_right e6
theorem cross2 {x y z a b c : Nat} (hb : 0 < b) (ha : 0 < a) (h1 : y * a ≤ x * b) (h2 : z * b < y * c) : z * a < x * c := by
  have e1 : y * a * c ≤ x * b * c := Nat.mul_le_mul_right c h1
  have e2 : z * b * a < y * c * a := Nat.mul_lt_mul_of_pos_right h2 ha
  have e3 : z * b * a = z * a * b := by rw [Nat.mul_assoc, Nat.mul_comm b a, ← Nat.mul_assoc]
  have e4 : y * c * a = y * a * c := by rw [Nat.mul_assoc, Nat.mul_comm c a, ← Nat.mul_assoc]
  have e5 : x * b * c = x * c * b := by rw [Nat.mul_assoc, Nat.mul_comm b c, ← Nat.mul_assoc]
  have e6 : z * a * b < x * c * b := by omega
  exact Nat.lt_of_mul_lt_mul_right e6
theorem bq_trans {a x i b y j c z k : Nat} (h : bq a x i b y j) (h2 : bq b y j c z k) : bq a x i c z k := by
  by_cases ha : a = 0
  · unfold bq at *
    omega
  · by_cases hb : b = 0
    · unfold bq at *
      omega
    · by_cases hc : c = 0
      · unfold bq at *
        omega
      · unfold bq at *
        rcases h with h | ⟨-, -, h⟩
        · omega
        rcases h2 with h2 | ⟨-, -, h2⟩
        · omega
        refine Or.inr ⟨ha, hc, ?_⟩
        rcases h with ⟨h, hi⟩ | h
        · rcases h2 with ⟨h2, hj⟩ | h2
          · refine Or.inl ⟨Nat.le_antisymm ?_ ?_, by omega⟩
            · exact cross (x := z) (y := y) (z := x) (a := c) (b := b) (c := a) (by omega) (by omega) (by omega)
            · exact cross (x := x) (y := y) (z := z) (a := a) (b := b) (c := c) (by omega) (by omega) (by omega)
          · exact Or.inr (cross2 (by omega) (by omega) (Nat.le_of_eq h.symm) h2)
        · rcases h2 with ⟨h2, hj⟩ | h2
          · exact Or.inr (cross1 (by omega) (by omega) h (Nat.le_of_eq h2.symm))
          · exact Or.inr (cross1 (by omega) (by omega) h (Nat.le_of_lt h2))
theorem bq_mono {a a' x x' i b b' y j : Nat} (h : bq a x i b y j) (ha : a' ≤ a) (hb : b ≤ b') (hx : x ≤ x') : bq a' x' i b' y j := by
  have e1 : y * a' ≤ y * a := Nat.mul_le_mul_left y ha
  have e2 : x * b ≤ x' * b' := Nat.mul_le_mul hx hb
  unfold bq at *
  omega
theorem dv_mono {r k k' : Nat} (h : k ≤ k') : dv r k ≤ dv r k' := by
  have e : k * (k + 1) ≤ k' * (k' + 1) := Nat.mul_le_mul h (by omega)
  unfold dv
  (repeat' split) <;> omega
theorem wo_mono {r : Nat} {v v' : Nat → Nat} {i : Nat} (h : v i ≤ v' i) : wo r v i ≤ wo r v' i := by
  have e : v i * v i ≤ v' i * v' i := Nat.mul_le_mul h h
  unfold wo
  split <;> omega
theorem bef_asym {r : Nat} {v : Nat → Nat} {i k j l : Nat} (h : bef r v i k j l = true) (h2 : bef r v j l i k = true) : False :=
  bq_asym (bef_iff.mp h) (bef_iff.mp h2)
theorem bef_total {r : Nat} {v : Nat → Nat} {i k j l : Nat} (h : i ≠ j) (h2 : ¬ bef r v i k j l = true) : bef r v j l i k = true := by
  rcases bq_total (a := dv r k) (x := wo r v i) (b := dv r l) (y := wo r v j) h with q | q
  · exact absurd (bef_iff.mpr q) h2
  · exact bef_iff.mpr q
theorem bef_trans {r : Nat} {v : Nat → Nat} {i k j l a b : Nat} (h : bef r v i k j l = true) (h2 : bef r v j l a b = true) : bef r v i k a b = true :=
  bef_iff.mpr (bq_trans (bef_iff.mp h) (bef_iff.mp h2))
theorem bef_mono {r : Nat} {v : Nat → Nat} {i k k' j l l' : Nat} (h : bef r v i k j l = true) (hk : k' ≤ k) (hl : l ≤ l') : bef r v i k' j l' = true :=
  bef_iff.mpr (bq_mono (bef_iff.mp h) (dv_mono hk) (dv_mono hl) (Nat.le_refl _))
theorem bef_vote {r : Nat} {v v' : Nat → Nat} {i k j l : Nat} (h : bef r v i k j l = true) (hi : v i ≤ v' i) (hj : v' j = v j) : bef r v' i k j l = true := by
  have e : wo r v' j = wo r v j := by simp [wo, hj]
  refine bef_iff.mpr ?_
  rw [e]
  exact bq_mono (bef_iff.mp h) (Nat.le_refl _) (Nat.le_refl _) (wo_mono hi)
/-- the taken quotients are on top -/
def Top (r : Nat) (v : Nat → Nat) (c : Nat) (s : Nat → Nat) : Prop :=
  (∀ i, i < c → v i = 0 → s i = 0) ∧ ∀ i j, i < c → j < c → i ≠ j → 0 < v j → 0 < s i → bef r v i (s i - 1) j (s j) = true
theorem sum_le {s s' : Nat → Nat} : ∀ {c : Nat}, (∀ j, j < c → s j ≤ s' j) → sumTo s c ≤ sumTo s' c
  | 0, _ => Nat.le_refl _
  | c + 1, h => by
    have h1 := sum_le (c := c) (fun j hj => h j (by omega))
    have h2 := h c (by omega)
    show sumTo s c + s c ≤ sumTo s' c + s' c
    omega
theorem sum_eq {s s' : Nat → Nat} : ∀ {c : Nat}, (∀ j, j < c → s j ≤ s' j) → sumTo s c = sumTo s' c → ∀ j, j < c → s j = s' j
  | 0, _, _, j, hj => by omega
  | c + 1, h, e, j, hj => by
    have h1 := sum_le (c := c) (fun j hj => h j (by omega))
    have h2 := h c (by omega)
    have e2 : sumTo s c + s c = sumTo s' c + s' c := e
    by_cases hq : j = c
    · subst hq; omega
    · exact sum_eq (c := c) (fun j hj => h j (by omega)) (by omega) j (by omega)
theorem Top.cmp {r : Nat} {v v' : Nat → Nat} {c : Nat} {s s' : Nat → Nat} (h : Top r v c s) (h' : Top r v' c s') {i j : Nat} (hi : i < c) (hj : j < c) (h1 : s' i < s i) (h2 : s j < s' j) (hv : v i ≤ v' i) (hw : v' j = v j) : False := by
  have hij : i ≠ j := fun q => by subst q; omega
  have vi : 0 < v i := Nat.pos_of_ne_zero (fun q => by have := h.1 i hi q; omega)
  have vj : 0 < v' j := Nat.pos_of_ne_zero (fun q => by have := h'.1 j hj q; omega)
  have a1 := h.2 i j hi hj hij (by omega) (by omega)
  have a2 := h'.2 j i hj hi (fun q => hij q.symm) (by omega) (by omega)
  have a3 := bef_vote a1 hv hw
  exact bef_asym (bef_mono a3 (k' := s' i) (l' := s' j - 1) (by omega) (by omega)) a2
theorem Top.uniq {r : Nat} {v : Nat → Nat} {c : Nat} {s s' : Nat → Nat} (h : Top r v c s) (h' : Top r v c s') (e : sumTo s c = sumTo s' c) : ∀ j, j < c → s j = s' j := by
  by_cases h1 : ∃ i, i < c ∧ s' i < s i
  · by_cases h2 : ∃ j, j < c ∧ s j < s' j
    · obtain ⟨i, hi, a⟩ := h1
      obtain ⟨j, hj, b⟩ := h2
      exact (h.cmp h' hi hj a b (Nat.le_refl _) rfl).elim
    · intro j hj
      exact (sum_eq (s := s') (s' := s) (fun j hj => Nat.not_lt.mp (fun q => h2 ⟨j, hj, q⟩)) e.symm j hj).symm
  · exact sum_eq (fun j hj => Nat.not_lt.mp (fun q => h1 ⟨j, hj, q⟩)) e
/-- more votes for one list alone: it never loses -/
theorem Top.more {r : Nat} {v v' : Nat → Nat} {c : Nat} {s s' : Nat → Nat} (h : Top r v c s) (h' : Top r v' c s') (e : sumTo s c = sumTo s' c) {i : Nat} (hi : i < c) (hv : v i ≤ v' i) (hw : ∀ j, j ≠ i → v' j = v j) : s i ≤ s' i := by
  rcases Nat.lt_or_ge (s' i) (s i) with q | q
  · by_cases h2 : ∃ j, j < c ∧ s j < s' j
    · obtain ⟨j, hj, b⟩ := h2
      have hji : j ≠ i := fun z => by subst z; omega
      exact (h.cmp h' hi hj q b hv (hw j hji)).elim
    · have := sum_eq (s := s') (s' := s) (fun j hj => Nat.not_lt.mp (fun z => h2 ⟨j, hj, z⟩)) e.symm i hi
      omega
  · exact q
theorem fnS_max {r : Nat} {v s : Nat → Nat} : ∀ {c b : Nat}, fnS r v s c = some b → ∀ j, j < c → j ≠ b → 0 < v j → bef r v b (s b) j (s j) = true
  | 0, b, h, j, hj, _, _ => by omega
  | c + 1, b, h, j, hj, hjb, hv => by
    rw [fnS_s] at h
    cases hq : fnS r v s c with
    | none =>
      have h0 := fnS_none hq
      rw [hq] at h
      simp only [fnx] at h
      split at h
      · cases h
        have := h0 j (by omega)
        omega
      · cases h
    | some k =>
      have h0 := fnS_max (c := c) hq
      have hk := fnS_lt hq
      rw [hq] at h
      simp only [fnx] at h
      split at h
      · rename_i q
        cases h
        by_cases hjk : j = k
        · subst hjk; exact q.2
        · exact bef_trans q.2 (h0 j (by omega) hjk hv)
      · rename_i q
        cases h
        by_cases hjc : j = c
        · subst hjc
          exact bef_total (by omega) (fun z => q ⟨hv, z⟩)
        · exact h0 j (by omega) hjb hv
theorem ltS_max {r : Nat} {v s : Nat → Nat} : ∀ {c b : Nat}, ltS r v s c = some b → ∀ j, j < c → j ≠ b → 0 < s j → bef r v j (s j - 1) b (s b - 1) = true
  | 0, b, h, j, hj, _, _ => by omega
  | c + 1, b, h, j, hj, hjb, hv => by
    rw [ltS_s] at h
    cases hq : ltS r v s c with
    | none =>
      have h0 := ltS_none hq
      rw [hq] at h
      simp only [ltx] at h
      split at h
      · cases h
        have := h0 j (by omega)
        omega
      · cases h
    | some k =>
      have h0 := ltS_max (c := c) hq
      have hk := ltS_lt hq
      rw [hq] at h
      simp only [ltx] at h
      split at h
      · rename_i q
        cases h
        by_cases hjk : j = k
        · subst hjk; exact q.2
        · exact bef_trans (h0 j (by omega) hjk hv) q.2
      · rename_i q
        cases h
        by_cases hjc : j = c
        · subst hjc
          exact bef_total (by omega) (fun z => q ⟨hv, z⟩)
        · exact h0 j (by omega) hjb hv
theorem Top.up {r : Nat} {v : Nat → Nat} {c b : Nat} {s : Nat → Nat} (h : Top r v c s) (hb : fnS r v s c = some b) : Top r v c (va_up s b (s b + 1)) := by
  have hbc := fnS_lt hb
  refine ⟨fun i hi hv => ?_, fun i j hi hj hij hv hs => ?_⟩
  · rw [vu_ne (fun q => by subst q; omega)]
    exact h.1 i hi hv
  · by_cases hib : i = b
    · subst hib
      rw [vu_eq, vu_ne (fun q => hij q.symm)]
      exact fnS_max hb j hj (fun q => hij q.symm) hv
    · rw [vu_ne hib] at hs ⊢
      by_cases hjb : j = b
      · subst hjb
        rw [vu_eq]
        exact bef_mono (h.2 i j hi hj hij hv hs) (Nat.le_refl _) (by omega)
      · rw [vu_ne hjb]
        exact h.2 i j hi hj hij hv hs
theorem Top.dn {r : Nat} {v : Nat → Nat} {c b : Nat} {s : Nat → Nat} (h : Top r v c s) (hb : ltS r v s c = some b) : Top r v c (va_up s b (s b - 1)) := by
  have hbc := ltS_lt hb
  refine ⟨fun i hi hv => ?_, fun i j hi hj hij hv hs => ?_⟩
  · by_cases hib : i = b
    · subst hib
      rw [vu_eq, h.1 i hi hv]
    · rw [vu_ne hib]
      exact h.1 i hi hv
  · by_cases hib : i = b
    · subst hib
      rw [vu_eq] at hs ⊢
      rw [vu_ne (fun q => hij q.symm)]
      exact bef_mono (h.2 i j hi hj hij hv (by omega)) (by omega) (Nat.le_refl _)
    · rw [vu_ne hib] at hs ⊢
      by_cases hjb : j = b
      · subst hjb
        rw [vu_eq]
        exact ltS_max hb i hi hij hs
      · rw [vu_ne hjb]
        exact h.2 i j hi hj hij hv hs
theorem Top.zero {r : Nat} {v : Nat → Nat} {c : Nat} : Top r v c (fun _ => 0) := ⟨fun _ _ _ => rfl, fun i j _ _ _ _ h => absurd h (Nat.lt_irrefl 0)⟩
theorem Top.upN {r : Nat} {v : Nat → Nat} {c : Nat} : ∀ {k : Nat} {s : Nat → Nat}, Top r v c s → Top r v c (upQ r v c k s)
  | 0, s, h => h
  | k + 1, s, h => by
    cases hq : fnS r v s c with
    | none =>
      simp only [upQ, hq]
      exact h
    | some b =>
      simp only [upQ, hq]
      exact Top.upN (h.up hq)
theorem Top.dnN {r : Nat} {v : Nat → Nat} {c : Nat} : ∀ {k : Nat} {s : Nat → Nat}, Top r v c s → Top r v c (dnQ r v c k s)
  | 0, s, h => h
  | k + 1, s, h => by
    cases hq : ltS r v s c with
    | none =>
      simp only [dnQ, hq]
      exact h
    | some b =>
      simp only [dnQ, hq]
      exact Top.dnN (h.dn hq)
theorem unx_dv {r n : Nat} : unx r n < dv r (n + 1) := by
  have e : n * (n + 1) < (n + 1) * (n + 1 + 1) := by
    have q1 : n * (n + 1) ≤ (n + 1) * (n + 1) := Nat.mul_le_mul (by omega) (Nat.le_refl _)
    have q2 : (n + 1) * (n + 1 + 1) = (n + 1) * (n + 1) + (n + 1) := Nat.mul_succ _ _
    omega
  unfold unx dv
  (repeat' split) <;> omega
theorem wo_upx {r : Nat} {v : Nat → Nat} {i all : Nat} (h : v i ≤ all) : wo r v i ≤ upx r all := by
  have e : v i * v i ≤ all * all := Nat.mul_le_mul h h
  unfold wo upx
  split <;> omega
theorem upx_pos {r all : Nat} (h : 0 < all) : 0 < upx r all := by
  have e : 0 < all * all := Nat.mul_pos h h
  unfold upx
  split <;> omega
theorem ssF_spec {r : Nat} {v : Nat → Nat} {n all i : Nat} : ∀ {f k : Nat}, k + f = n + 2 → k ≤ n + 1 →
    ¬ (0 < v i ∧ ssF r v n all i f k ≤ n ∧ upx r all * dv r (ssF r v n all i f k) ≤ wo r v i * unx r n) ∧ ∀ m, k ≤ m → m < ssF r v n all i f k → 0 < v i ∧ m ≤ n ∧ upx r all * dv r m ≤ wo r v i * unx r n
  | 0, k, h1, h2 => by omega
  | f + 1, k, h1, h2 => by
    rw [ssF]
    split
    · rename_i q
      obtain ⟨a1, a2⟩ := ssF_spec (r := r) (v := v) (n := n) (all := all) (i := i) (f := f) (k := k + 1) (by omega) (by omega)
      refine ⟨a1, fun m hm1 hm2 => ?_⟩
      by_cases hm : m = k
      · subst hm; exact q
      · exact a2 m (by omega) hm2
    · rename_i q
      exact ⟨q, fun m hm1 hm2 => by omega⟩
theorem Top.s0 {r : Nat} {v : Nat → Nat} {c n all : Nat} (ha : all = sumTo v c) (hp : 0 < all) : Top r v c (s0Q r v n all) := by
  by_cases hn : n = 0
  · have e : s0Q r v n all = fun _ => 0 := by
      funext i
      simp [s0Q, hn]
    rw [e]
    exact Top.zero
  · have e : ∀ i, s0Q r v n all i = ssF r v n all i (n + 2) 0 := fun i => by simp [s0Q, hn]
    have hup := upx_pos (r := r) hp
    refine ⟨fun i hi hv => ?_, fun i j hi hj hij hv hs => ?_⟩
    · rw [e]
      rw [ssF, if_neg (by omega)]
    · rw [e] at hs ⊢
      rw [e]
      obtain ⟨-, a2⟩ := ssF_spec (r := r) (v := v) (n := n) (all := all) (i := i) (f := n + 2) (k := 0) (by omega) (by omega)
      obtain ⟨b1, -⟩ := ssF_spec (r := r) (v := v) (n := n) (all := all) (i := j) (f := n + 2) (k := 0) (by omega) (by omega)
      generalize ssF r v n all i (n + 2) 0 = ki at *
      generalize ssF r v n all j (n + 2) 0 = kj at *
      obtain ⟨-, -, c1⟩ := a2 (ki - 1) (by omega) (by omega)
      have c2 : wo r v j * unx r n < upx r all * dv r kj := by
        rcases Nat.lt_or_ge n kj with q | q
        · have w1 := wo_upx (r := r) (v := v) (i := j) (all := all) (by rw [ha]; exact sumTo_at hj)
          have w2 := unx_dv (r := r) (n := n)
          have w3 := dv_mono (r := r) (show n + 1 ≤ kj by omega)
          have w4 : wo r v j * unx r n ≤ upx r all * unx r n := Nat.mul_le_mul_right _ w1
          have w5 : upx r all * unx r n < upx r all * dv r kj := Nat.mul_lt_mul_of_pos_left (by omega) hup
          omega
        · exact Nat.not_le.mp (fun z => b1 ⟨hv, q, z⟩)
      refine bef_iff.mpr ?_
      generalize dv r (ki - 1) = a at *
      generalize dv r kj = b at *
      generalize wo r v i = x at *
      generalize wo r v j = y at *
      generalize unx r n = un at *
      generalize upx r all = up at *
      have hb : 0 < b := Nat.pos_of_ne_zero (fun q => by subst q; omega)
      by_cases haz : a = 0
      · unfold bq
        omega
      · have hun : 0 < un := Nat.pos_of_ne_zero (fun q => by
          subst q
          have : 0 < up * a := Nat.mul_pos hup (by omega)
          omega)
        have d1 : up * a * b ≤ x * un * b := Nat.mul_le_mul_right b c1
        have d2 : y * un * a < up * b * a := Nat.mul_lt_mul_of_pos_right c2 (by omega)
        have d3 : up * a * b = up * b * a := by rw [Nat.mul_assoc, Nat.mul_comm a b, ← Nat.mul_assoc]
        have d4 : x * un * b = x * b * un := by rw [Nat.mul_assoc, Nat.mul_comm un b, ← Nat.mul_assoc]
        have d5 : y * un * a = y * a * un := by rw [Nat.mul_assoc, Nat.mul_comm un a, ← Nat.mul_assoc]
        have d6 : y * a * un < x * b * un := by omega
        have d7 := Nat.lt_of_mul_lt_mul_right d6
        unfold bq
        omega
theorem Top.shN {r : Nat} {v : Nat → Nat} {c n all : Nat} (ha : all = sumTo v c) (hp : 0 < all) : Top r v c (shQ r v c n all) := (Top.s0 ha hp).dnN.upN
/-- one by one, or by a common bound: the same -/
theorem shQ_eq {r : Nat} {v : Nat → Nat} {c n all : Nat} (ha : all = sumTo v c) (hp : 0 < all) : ∀ j, j < c → shQ r v c n all j = upQ r v c n (fun _ => 0) j := by
  refine (Top.shN ha hp).uniq Top.zero.upN ?_
  rw [shQ_sum (by omega), upQ_sum (by omega)]
  have : sumTo (fun _ => 0) c = 0 := by
    clear ha
    induction c with
    | zero => rfl
    | succ c ih => exact ih
  omega
theorem shQ_step {r : Nat} {v : Nat → Nat} {c n all b : Nat} (ha : all = sumTo v c) (hp : 0 < all) (hb : fnS r v (shQ r v c n all) c = some b) : ∀ j, j < c → shQ r v c (n + 1) all j = va_up (shQ r v c n all) b (shQ r v c n all b + 1) j := by
  refine (Top.shN ha hp).uniq ((Top.shN ha hp).up hb) ?_
  have h := sumTo_up (v := shQ r v c n all) (x := shQ r v c n all b + 1) (fnS_lt hb).1
  have h1 := shQ_sum (r := r) (n := n) (all := all) (show 0 < sumTo v c by omega)
  have h2 := shQ_sum (r := r) (n := n + 1) (all := all) (show 0 < sumTo v c by omega)
  omega
theorem sh_Q {r : Nat} {v : Nat → Nat} {c n : Nat} (hr : r < 5) (hp : 0 < sumTo v c) : sh r v c n = shQ r v c n (sumTo v c) := by
  unfold sh
  rw [if_neg (by omega), if_pos hr]
theorem sh_0 {r : Nat} {v : Nat → Nat} {c n : Nat} (hp : sumTo v c = 0) : sh r v c n = fun _ => 0 := by
  unfold sh
  rw [if_pos hp]
theorem shW_mono {r : Nat} {v : Nat → Nat} {c t i x x' : Nat} (hr : r < 5) (hi : i < c) (hx : x ≤ x') : shW r v c t i x ≤ shW r v c t i x' := by
  unfold shW
  by_cases hp : 0 < sumTo (va_up v i x) c
  · have e1 := sumTo_up (v := v) (x := x) hi
    have e2 := sumTo_up (v := v) (x := x') hi
    have hp' : 0 < sumTo (va_up v i x') c := by omega
    rw [sh_Q hr hp, sh_Q hr hp']
    refine (Top.shN rfl hp).more (Top.shN rfl hp') ?_ hi ?_ ?_
    · rw [shQ_sum hp, shQ_sum hp']
    · rw [vu_eq, vu_eq]; exact hx
    · intro j hj
      rw [vu_ne hj, vu_ne hj]
  · rw [sh_0 (by omega)]
    exact Nat.zero_le _
end
section
set_option maxRecDepth 100000
theorem lst_none {P : Nat → Bool} : ∀ {f k : Nat}, (∀ m, k ≤ m → m < k + f → P m = false) → lst P f k = none
  | 0, k, _ => rfl
  | f + 1, k, h => by
    rw [lst_miss (by omega) (h k (by omega) (by omega))]
    exact lst_none (fun m h1 h2 => h m (by omega) (by omega))
theorem lst_some {P : Nat → Bool} {g : Nat} : ∀ {f k : Nat}, k ≤ g → g < k + f → P g = true → (∀ m, k ≤ m → m < g → P m = false) → lst P f k = some g
  | 0, k, h1, h2, _, _ => by omega
  | f + 1, k, h1, h2, h3, h4 => by
    by_cases hk : k = g
    · subst hk
      exact lst_hit (by omega) h3
    · rw [lst_miss (by omega) (h4 k (by omega) (by omega))]
      exact lst_some (by omega) (by omega) h3 (fun m a b => h4 m (by omega) b)
theorem lst_bin {P : Nat → Bool} {hg lw : Nat} (hm : ∀ m m', m ≤ m' → P m = true → P m' = true) (h : hg = lw + 1) (h3 : P lw = false) (h4 : hg = 2001 ∨ P hg = true) (h2 : hg ≤ 2001) : lst P 2000 1 = if hg ≤ 2000 then some hg else none := by
  have lo : ∀ m, m ≤ lw → P m = false := fun m hml => by
    cases hq : P m with
    | false => rfl
    | true => rw [hm m lw hml hq] at h3; cases h3
  split
  · rename_i q
    rcases h4 with e | e
    · omega
    · exact lst_some (by omega) (by omega) e (fun m a b => lo m (by omega))
  · exact lst_none (fun m a b => lo m (by omega))
theorem gst_at {P : Nat → Bool} {lw : Nat} : ∀ {k : Nat}, lw ≤ k → (lw = 0 ∨ P lw = true) → (∀ m, lw < m → m ≤ k → P m = false) → gst P k = lw
  | 0, h1, _, _ => by
    show 0 = lw
    omega
  | k + 1, h1, h2, h3 => by
    by_cases hk : lw = k + 1
    · rcases h2 with h2 | h2
      · omega
      · rw [gst, ← hk, h2]; rfl
    · rw [gst, h3 (k + 1) (by omega) (by omega)]
      exact gst_at (by omega) h2 (fun m a b => h3 m a (by omega))
set_option maxHeartbeats 4000000 in
theorem mX_missing (l : Launch) (D : va_G) (ad : Nat → Nat) (cI cB : ClassId) (c t : Nat) (v : Nat → Nat) (S K R O : Nat → Int32) (a b : Int32) (hc : c ≤ 6) (ht : t ≤ 30) (hv : ∀ j, j < c → v j ≤ 999) : Mi l D (tyX cI cB) (WX ad cI cB) yX0_missing cX0_missing 9 (some .int) 6 157 (ad 0) [.int a, .int b] (c, t, v, S, K, R, O) (pubX (sp_missing c t v a b)) := by
  refine Mi.of (by decide) (Nat.le_of_ble_eq_true rfl) ?_
  intro p e s m args below meth cd A ls Q G hrt h hl hret
  have G : GX D A cI cB p s m args cd cX0_missing 9 := G
  have h : HX D A ad cI cB s.heap c t v S K R O s.heap [] := h
  have hl : lv_has ls 9 [(0, .ref (ad 0)), (1, .int a), (2, .int b)] := hl
  have hx := G.1.1
  have hb := G.1.2.1
  have hv3 : ∀ j, j < c → v j ≤ 2999 := fun j hj => by have := hv j hj; omega
  have hal : sumTo v c ≤ 5994 := by have := sumTo_le hv; have h2 : c * 999 ≤ 6 * 999 := Nat.mul_le_mul_right _ hc; omega
  cases ha : ix 7 a with
  | none =>
    refine lv_aload_n hx hb dX0_missing_0 rfl (lv_at hl 0 rfl) ?_
    refine lv_iload_n hx hb dX0_missing_1 rfl (lv_at hl 1 rfl) ?_
    refine x_callr (x := nI 1) G h (mX_badRule1 l D ad cI cB c t v S K R O a ha) kX_badRule rfl ⟨Nat.le_of_ble_eq_true rfl, Nat.le_of_ble_eq_true rfl, Nat.le_refl _, Nat.le_refl _⟩ hl.1 rfl (Nat.le_of_ble_eq_true rfl) dX0_missing_2 (fun H locs h => ?_)
    refine n_if_ne (tgt := 21) hx hb dX0_missing_5 (by decide) (by omega) (fun c5 => ?_) (fun c5 => absurd c5 (by omega))
    refine lv_iconst (v := (-1)) hx hb dX0_missing_21 (by decide) ?_
    exact hret _ _ _ _ _ (c, t, v, S, K, R, O) _ h (pubX_i (by simp only [sp_missing, ha])) hrt rfl dX0_missing_22
  | some r =>
    obtain ⟨hr, rfl⟩ := ix_some (by decide) ha
    cases hb2 : ix c b with
    | none =>
      refine lv_aload_n hx hb dX0_missing_0 rfl (lv_at hl 0 rfl) ?_
      refine lv_iload_n hx hb dX0_missing_1 rfl (lv_at hl 1 rfl) ?_
      refine x_callr (x := nI 0) G h (mX_badRule0 l D ad cI cB c t v S K R O r (by omega)) kX_badRule rfl ⟨Nat.le_of_ble_eq_true rfl, Nat.le_of_ble_eq_true rfl, Nat.le_refl _, Nat.le_refl _⟩ hl.1 rfl (Nat.le_of_ble_eq_true rfl) dX0_missing_2 (fun H locs h => ?_)
      refine n_if_ne (tgt := 21) hx hb dX0_missing_5 (by decide) (by omega) (fun c5 => absurd c5 (by omega)) (fun c5 => ?_)
      refine lv_iload_n hx hb dX0_missing_8 rfl (lv_at hl 1 rfl) ?_
      refine lv_iconst (v := (nI 5)) hx hb dX0_missing_9 (by decide) ?_
      refine n_icmp_ge (tgt := 21) hx hb dX0_missing_10 (by decide) (by omega) (by omega) (fun c10 => ?_) (fun c10 => ?_)
      · skip
        refine lv_iconst (v := (-1)) hx hb dX0_missing_21 (by decide) ?_
        exact hret _ _ _ _ _ (c, t, v, S, K, R, O) _ h (pubX_i (by simp only [sp_missing, ha, hb2, if_pos c10])) hrt rfl dX0_missing_22
      · skip
        refine lv_aload_n hx hb dX0_missing_13 rfl (lv_at hl 0 rfl) ?_
        refine lv_iload_n hx hb dX0_missing_14 rfl (lv_at hl 2 rfl) ?_
        refine x_callr (x := nI 1) G h (mX_missingList1 l D ad cI cB c t v S K R O b hc hb2) kX_missingList rfl ⟨Nat.le_of_ble_eq_true rfl, Nat.le_of_ble_eq_true rfl, Nat.le_refl _, Nat.le_refl _⟩ hl.1 rfl (Nat.le_of_ble_eq_true rfl) dX0_missing_15 (fun H locs h => ?_)
        refine n_if_eq (tgt := 23) hx hb dX0_missing_18 (by decide) (by omega) (fun c18 => absurd c18 (by omega)) (fun c18 => ?_)
        refine lv_iconst (v := (-1)) hx hb dX0_missing_21 (by decide) ?_
        exact hret _ _ _ _ _ (c, t, v, S, K, R, O) _ h (pubX_i (by simp only [sp_missing, ha, hb2, if_neg (show ¬ 5 ≤ r by omega)])) hrt rfl dX0_missing_22
    | some i =>
      obtain ⟨hi, rfl⟩ := ix_some (by omega) hb2
      refine lv_aload_n hx hb dX0_missing_0 rfl (lv_at hl 0 rfl) ?_
      refine lv_iload_n hx hb dX0_missing_1 rfl (lv_at hl 1 rfl) ?_
      refine x_callr (x := nI 0) G h (mX_badRule0 l D ad cI cB c t v S K R O r (by omega)) kX_badRule rfl ⟨Nat.le_of_ble_eq_true rfl, Nat.le_of_ble_eq_true rfl, Nat.le_refl _, Nat.le_refl _⟩ hl.1 rfl (Nat.le_of_ble_eq_true rfl) dX0_missing_2 (fun H locs h => ?_)
      refine n_if_ne (tgt := 21) hx hb dX0_missing_5 (by decide) (by omega) (fun c5 => absurd c5 (by omega)) (fun c5 => ?_)
      refine lv_iload_n hx hb dX0_missing_8 rfl (lv_at hl 1 rfl) ?_
      refine lv_iconst (v := (nI 5)) hx hb dX0_missing_9 (by decide) ?_
      refine n_icmp_ge (tgt := 21) hx hb dX0_missing_10 (by decide) (by omega) (by omega) (fun c10 => ?_) (fun c10 => ?_)
      · skip
        refine lv_iconst (v := (-1)) hx hb dX0_missing_21 (by decide) ?_
        exact hret _ _ _ _ _ (c, t, v, S, K, R, O) _ h (pubX_i (by simp only [sp_missing, ha, hb2, if_pos c10])) hrt rfl dX0_missing_22
      · skip
        refine lv_aload_n hx hb dX0_missing_13 rfl (lv_at hl 0 rfl) ?_
        refine lv_iload_n hx hb dX0_missing_14 rfl (lv_at hl 2 rfl) ?_
        refine x_callr (x := nI 0) G h (mX_missingList0 l D ad cI cB c t v S K R O i hc (by omega)) kX_missingList rfl ⟨Nat.le_of_ble_eq_true rfl, Nat.le_of_ble_eq_true rfl, Nat.le_refl _, Nat.le_refl _⟩ hl.1 rfl (Nat.le_of_ble_eq_true rfl) dX0_missing_15 (fun H locs h => ?_)
        refine n_if_eq (tgt := 23) hx hb dX0_missing_18 (by decide) (by omega) (fun c18 => ?_) (fun c18 => absurd c18 (by omega))
        refine lv_aload_n hx hb dX0_missing_23 rfl (lv_at hl 0 rfl) ?_
        refine x_getV G h dX0_missing_24 ?_
        refine lv_iload_n hx hb dX0_missing_27 rfl (lv_at hl 2 rfl) ?_
        refine x_ldV G h (by omega) dX0_missing_28 ?_
        refine lv_istore_n (lv' := [(3, .int (nI (v i))), (0, .ref (ad 0)), (1, .int (nI r)), (2, .int (nI i))]) hx hb dX0_missing_29 rfl hl (by decide) rfl (fun ls hl => ?_)
        refine lv_aload_n hx hb dX0_missing_30 rfl (lv_at hl 1 rfl) ?_
        refine lv_iload_n hx hb dX0_missing_31 rfl (lv_at hl 2 rfl) ?_
        refine lv_iload_n hx hb dX0_missing_32 rfl (lv_at hl 3 rfl) ?_
        refine lv_iload_n hx hb dX0_missing_33 rfl (lv_at hl 0 rfl) ?_
        refine x_calli G h (mX_shareWith l D ad cI cB c t v S K R O r i (v i) (by omega) hc (by omega) hv3 (by have := hv i hi; omega) ht) kX_shareWith rfl ⟨Nat.le_of_ble_eq_true rfl, Nat.le_of_ble_eq_true rfl, Nat.le_refl _, Nat.le_refl _⟩ hl.1 rfl (Nat.le_of_ble_eq_true rfl) dX0_missing_34 (fun r1 c1 t1 v1 Sb1 K1 Rb1 Ob1 H locs hp h => ?_)
        obtain ⟨rfl, S2, R2, O2, e1⟩ := hp
        cases e1
        refine lv_istore (lv' := [(4, .int (nI (shW r v c t i (v i)))), (3, .int (nI (v i))), (0, .ref (ad 0)), (1, .int (nI r)), (2, .int (nI i))]) hx hb dX0_missing_37 hl (by decide) rfl (fun ls hl => ?_)
        refine lv_sipush (v := (nI 2001)) hx hb dX0_missing_39 (by decide) ?_
        refine lv_istore (lv' := [(5, .int (nI 2001)), (4, .int (nI (shW r v c t i (v i)))), (3, .int (nI (v i))), (0, .ref (ad 0)), (1, .int (nI r)), (2, .int (nI i))]) hx hb dX0_missing_42 hl (by decide) rfl (fun ls hl => ?_)
        refine lv_iconst (v := (nI 0)) hx hb dX0_missing_44 (by decide) ?_
        refine lv_istore (lv' := [(6, .int (nI 0)), (5, .int (nI 2001)), (4, .int (nI (shW r v c t i (v i)))), (3, .int (nI (v i))), (0, .ref (ad 0)), (1, .int (nI r)), (2, .int (nI i))]) hx hb dX0_missing_45 hl (by decide) rfl (fun ls hl => ?_)
        have L47 : ∀ (n47 : Nat) (hg : Nat) (lw : Nat) (S1 : Nat → Int32) (R1 : Nat → Int32) (O1 : Nat → Int32), hg - lw < n47 → (lw < hg) → (hg ≤ 2001) → (shW r v c t i (v i + lw) ≤ shW r v c t i (v i)) → (hg = 2001 ∨ shW r v c t i (v i) < shW r v c t i (v i + hg)) → ∀ (H : Heap) (locs : List Loc), HX D A ad cI cB s.heap c t v S1 K R1 O1 H locs → ∀ (ls : Array Slot), lv_has ls 9 [(0, .ref (ad 0)), (1, .int (nI r)), (2, .int (nI i)), (3, .int (nI (v i))), (4, .int (nI (shW r v c t i (v i)))), (5, .int (nI hg)), (6, .int (nI lw))] → W p l e (rmm 6 157) s m args below meth cd H locs 0 0 Q (F0 m 47 ls []) := by
          intro n47
          induction n47 with
          | zero =>
            intro hg lw S1 R1 O1 hm
            exact absurd hm (Nat.not_lt_zero _)
          | succ n47 ih47 =>
            intro hg lw S1 R1 O1 hm47 h1 h2 h3 h4 H locs h ls hl
            refine lv_iload hx hb dX0_missing_47 (lv_at hl 5 rfl) ?_
            refine lv_iload hx hb dX0_missing_49 (lv_at hl 6 rfl) ?_
            refine n_isub hx hb dX0_missing_51 (by omega) ?_
            refine lv_iconst (v := (nI 1)) hx hb dX0_missing_52 (by decide) ?_
            refine n_icmp_le (tgt := 98) hx hb dX0_missing_53 (by decide) (by omega) (by omega) (fun c53 => ?_) (fun c53 => ?_)
            · skip
              refine lv_iload hx hb dX0_missing_98 (lv_at hl 5 rfl) ?_
              refine lv_sipush (v := (nI 2000)) hx hb dX0_missing_100 (by decide) ?_
              refine n_icmp_le (tgt := 111) hx hb dX0_missing_103 (by decide) (by omega) (by omega) (fun c103 => ?_) (fun c103 => ?_)
              · skip
                refine lv_iload hx hb dX0_missing_111 (lv_at hl 5 rfl) ?_
                exact hret _ _ _ _ _ (c, t, v, S1, K, R1, O1) _ h (pubX_i (by simp only [sp_missing, ha, hb2, if_neg (show ¬ 5 ≤ r by omega)]; rw [(lst_bin (P := (fun m => decide (shW r v c t i (v i) < shW r v c t i (v i + m)))) (fun m m' hm hp => decide_eq_true (Nat.lt_of_lt_of_le (of_decide_eq_true hp) (shW_mono (by omega) hi (by omega)))) (show hg = lw + 1 by omega) (decide_eq_false (by omega)) (h4.imp id (fun z => decide_eq_true z)) h2), if_pos c103]; rfl)) hrt rfl dX0_missing_113
              · skip
                refine lv_bipush (v := (-4)) hx hb dX0_missing_106 (by decide) ?_
                refine lv_goto (tgt := 113) hx hb dX0_missing_108 (by decide) ?_
                exact hret _ _ _ _ _ (c, t, v, S1, K, R1, O1) _ h (pubX_i (by simp only [sp_missing, ha, hb2, if_neg (show ¬ 5 ≤ r by omega)]; rw [(lst_bin (P := (fun m => decide (shW r v c t i (v i) < shW r v c t i (v i + m)))) (fun m m' hm hp => decide_eq_true (Nat.lt_of_lt_of_le (of_decide_eq_true hp) (shW_mono (by omega) hi (by omega)))) (show hg = lw + 1 by omega) (decide_eq_false (by omega)) (h4.imp id (fun z => decide_eq_true z)) h2), if_neg (show ¬ hg ≤ 2000 by omega)]; rfl)) hrt rfl dX0_missing_113
            · skip
              refine lv_iload hx hb dX0_missing_56 (lv_at hl 6 rfl) ?_
              refine lv_iload hx hb dX0_missing_58 (lv_at hl 5 rfl) ?_
              refine n_iadd hx hb dX0_missing_60 ?_
              refine lv_iconst (v := (nI 2)) hx hb dX0_missing_61 (by decide) ?_
              refine n_idiv hx hb dX0_missing_62 (by omega) (by omega) (by omega) ?_
              refine lv_istore (lv' := [(7, .int (nI ((lw + hg) / 2))), (0, .ref (ad 0)), (1, .int (nI r)), (2, .int (nI i)), (3, .int (nI (v i))), (4, .int (nI (shW r v c t i (v i)))), (5, .int (nI hg)), (6, .int (nI lw))]) hx hb dX0_missing_63 hl (by decide) rfl (fun ls hl => ?_)
              refine lv_aload_n hx hb dX0_missing_65 rfl (lv_at hl 1 rfl) ?_
              refine lv_iload_n hx hb dX0_missing_66 rfl (lv_at hl 2 rfl) ?_
              refine lv_iload_n hx hb dX0_missing_67 rfl (lv_at hl 3 rfl) ?_
              refine lv_iload_n hx hb dX0_missing_68 rfl (lv_at hl 4 rfl) ?_
              refine lv_iload hx hb dX0_missing_69 (lv_at hl 0 rfl) ?_
              refine n_iadd hx hb dX0_missing_71 ?_
              refine x_calli G h (mX_shareWith l D ad cI cB c t v S1 K R1 O1 r i ((v i) + ((lw + hg) / 2)) (by omega) hc (by omega) hv3 (by have := hv i hi; omega) ht) kX_shareWith rfl ⟨Nat.le_of_ble_eq_true rfl, Nat.le_of_ble_eq_true rfl, Nat.le_refl _, Nat.le_refl _⟩ hl.1 rfl (Nat.le_of_ble_eq_true rfl) dX0_missing_72 (fun r1 c1 t1 v1 Sb2 K1 Rb2 Ob2 H locs hp h => ?_)
              obtain ⟨rfl, S2, R2, O2, e1⟩ := hp
              cases e1
              refine lv_istore (lv' := [(8, .int (nI (shW r v c t i ((v i) + ((lw + hg) / 2))))), (7, .int (nI ((lw + hg) / 2))), (0, .ref (ad 0)), (1, .int (nI r)), (2, .int (nI i)), (3, .int (nI (v i))), (4, .int (nI (shW r v c t i (v i)))), (5, .int (nI hg)), (6, .int (nI lw))]) hx hb dX0_missing_75 hl (by decide) rfl (fun ls hl => ?_)
              refine lv_iload hx hb dX0_missing_77 (lv_at hl 0 rfl) ?_
              refine lv_iload hx hb dX0_missing_79 (lv_at hl 6 rfl) ?_
              refine n_icmp_le (tgt := 91) hx hb dX0_missing_81 (by decide) (by have := sh_le (r := r) (v := va_up v i (v i + (lw + hg) / 2)) (n := t) hi; show shW r v c t i _ < _; unfold shW; omega) (by have := sh_le (r := r) (v := va_up v i (v i)) (n := t) hi; show shW r v c t i _ < _; unfold shW; omega) (fun c81 => ?_) (fun c81 => ?_)
              · skip
                refine lv_iload hx hb dX0_missing_91 (lv_at hl 1 rfl) ?_
                refine lv_istore (lv' := [(6, .int (nI ((lw + hg) / 2))), (8, .int (nI (shW r v c t i ((v i) + ((lw + hg) / 2))))), (7, .int (nI ((lw + hg) / 2))), (0, .ref (ad 0)), (1, .int (nI r)), (2, .int (nI i)), (3, .int (nI (v i))), (4, .int (nI (shW r v c t i (v i)))), (5, .int (nI hg))]) hx hb dX0_missing_93 hl (by decide) rfl (fun ls hl => ?_)
                refine lv_goto (tgt := 47) hx hb dX0_missing_95 (by decide) ?_
                exact ih47 hg ((lw + hg) / 2) Sb2 Rb2 Ob2 (by omega) (by omega) (by omega) c81 h4 _ _ h _ (lv_sub hl [3, 4, 5, 6, 7, 8, 0] rfl)
              · skip
                refine lv_iload hx hb dX0_missing_84 (lv_at hl 1 rfl) ?_
                refine lv_istore (lv' := [(5, .int (nI ((lw + hg) / 2))), (8, .int (nI (shW r v c t i ((v i) + ((lw + hg) / 2))))), (7, .int (nI ((lw + hg) / 2))), (0, .ref (ad 0)), (1, .int (nI r)), (2, .int (nI i)), (3, .int (nI (v i))), (4, .int (nI (shW r v c t i (v i)))), (6, .int (nI lw))]) hx hb dX0_missing_86 hl (by decide) rfl (fun ls hl => ?_)
                refine lv_goto (tgt := 95) hx hb dX0_missing_88 (by decide) ?_
                refine lv_goto (tgt := 47) hx hb dX0_missing_95 (by decide) ?_
                exact ih47 ((lw + hg) / 2) lw Sb2 Rb2 Ob2 (by omega) (by omega) (by omega) h3 (Or.inr c81) _ _ h _ (lv_sub hl [3, 4, 5, 6, 7, 0, 8] rfl)
        exact L47 _ 2001 0 Sb1 Rb1 Ob1 (Nat.lt_succ_self _) (by omega) (by omega) (Nat.le_refl _) (Or.inl rfl) _ _ h _ (lv_sub hl [4, 5, 6, 3, 2, 1, 0] rfl)
set_option maxHeartbeats 4000000 in
theorem mX_spare (l : Launch) (D : va_G) (ad : Nat → Nat) (cI cB : ClassId) (c t : Nat) (v : Nat → Nat) (S K R O : Nat → Int32) (a b : Int32) (hc : c ≤ 6) (ht : t ≤ 30) (hv : ∀ j, j < c → v j ≤ 999) : Mi l D (tyX cI cB) (WX ad cI cB) yX0_spare cX0_spare 9 (some .int) 6 157 (ad 0) [.int a, .int b] (c, t, v, S, K, R, O) (pubX (sp_spare c t v a b)) := by
  refine Mi.of (by decide) (Nat.le_of_ble_eq_true rfl) ?_
  intro p e s m args below meth cd A ls Q G hrt h hl hret
  have G : GX D A cI cB p s m args cd cX0_spare 9 := G
  have h : HX D A ad cI cB s.heap c t v S K R O s.heap [] := h
  have hl : lv_has ls 9 [(0, .ref (ad 0)), (1, .int a), (2, .int b)] := hl
  have hx := G.1.1
  have hb := G.1.2.1
  have hv3 : ∀ j, j < c → v j ≤ 2999 := fun j hj => by have := hv j hj; omega
  have hal : sumTo v c ≤ 5994 := by have := sumTo_le hv; have h2 : c * 999 ≤ 6 * 999 := Nat.mul_le_mul_right _ hc; omega
  cases ha : ix 7 a with
  | none =>
    refine lv_aload_n hx hb dX0_spare_0 rfl (lv_at hl 0 rfl) ?_
    refine lv_iload_n hx hb dX0_spare_1 rfl (lv_at hl 1 rfl) ?_
    refine x_callr (x := nI 1) G h (mX_badRule1 l D ad cI cB c t v S K R O a ha) kX_badRule rfl ⟨Nat.le_of_ble_eq_true rfl, Nat.le_of_ble_eq_true rfl, Nat.le_refl _, Nat.le_refl _⟩ hl.1 rfl (Nat.le_of_ble_eq_true rfl) dX0_spare_2 (fun H locs h => ?_)
    refine n_if_ne (tgt := 21) hx hb dX0_spare_5 (by decide) (by omega) (fun c5 => ?_) (fun c5 => absurd c5 (by omega))
    refine lv_iconst (v := (-1)) hx hb dX0_spare_21 (by decide) ?_
    exact hret _ _ _ _ _ (c, t, v, S, K, R, O) _ h (pubX_i (by simp only [sp_spare, ha])) hrt rfl dX0_spare_22
  | some r =>
    obtain ⟨hr, rfl⟩ := ix_some (by decide) ha
    cases hb2 : ix c b with
    | none =>
      refine lv_aload_n hx hb dX0_spare_0 rfl (lv_at hl 0 rfl) ?_
      refine lv_iload_n hx hb dX0_spare_1 rfl (lv_at hl 1 rfl) ?_
      refine x_callr (x := nI 0) G h (mX_badRule0 l D ad cI cB c t v S K R O r (by omega)) kX_badRule rfl ⟨Nat.le_of_ble_eq_true rfl, Nat.le_of_ble_eq_true rfl, Nat.le_refl _, Nat.le_refl _⟩ hl.1 rfl (Nat.le_of_ble_eq_true rfl) dX0_spare_2 (fun H locs h => ?_)
      refine n_if_ne (tgt := 21) hx hb dX0_spare_5 (by decide) (by omega) (fun c5 => absurd c5 (by omega)) (fun c5 => ?_)
      refine lv_iload_n hx hb dX0_spare_8 rfl (lv_at hl 1 rfl) ?_
      refine lv_iconst (v := (nI 5)) hx hb dX0_spare_9 (by decide) ?_
      refine n_icmp_ge (tgt := 21) hx hb dX0_spare_10 (by decide) (by omega) (by omega) (fun c10 => ?_) (fun c10 => ?_)
      · skip
        refine lv_iconst (v := (-1)) hx hb dX0_spare_21 (by decide) ?_
        exact hret _ _ _ _ _ (c, t, v, S, K, R, O) _ h (pubX_i (by simp only [sp_spare, ha, hb2, if_pos c10])) hrt rfl dX0_spare_22
      · skip
        refine lv_aload_n hx hb dX0_spare_13 rfl (lv_at hl 0 rfl) ?_
        refine lv_iload_n hx hb dX0_spare_14 rfl (lv_at hl 2 rfl) ?_
        refine x_callr (x := nI 1) G h (mX_missingList1 l D ad cI cB c t v S K R O b hc hb2) kX_missingList rfl ⟨Nat.le_of_ble_eq_true rfl, Nat.le_of_ble_eq_true rfl, Nat.le_refl _, Nat.le_refl _⟩ hl.1 rfl (Nat.le_of_ble_eq_true rfl) dX0_spare_15 (fun H locs h => ?_)
        refine n_if_eq (tgt := 23) hx hb dX0_spare_18 (by decide) (by omega) (fun c18 => absurd c18 (by omega)) (fun c18 => ?_)
        refine lv_iconst (v := (-1)) hx hb dX0_spare_21 (by decide) ?_
        exact hret _ _ _ _ _ (c, t, v, S, K, R, O) _ h (pubX_i (by simp only [sp_spare, ha, hb2, if_neg (show ¬ 5 ≤ r by omega)])) hrt rfl dX0_spare_22
    | some i =>
      obtain ⟨hi, rfl⟩ := ix_some (by omega) hb2
      refine lv_aload_n hx hb dX0_spare_0 rfl (lv_at hl 0 rfl) ?_
      refine lv_iload_n hx hb dX0_spare_1 rfl (lv_at hl 1 rfl) ?_
      refine x_callr (x := nI 0) G h (mX_badRule0 l D ad cI cB c t v S K R O r (by omega)) kX_badRule rfl ⟨Nat.le_of_ble_eq_true rfl, Nat.le_of_ble_eq_true rfl, Nat.le_refl _, Nat.le_refl _⟩ hl.1 rfl (Nat.le_of_ble_eq_true rfl) dX0_spare_2 (fun H locs h => ?_)
      refine n_if_ne (tgt := 21) hx hb dX0_spare_5 (by decide) (by omega) (fun c5 => absurd c5 (by omega)) (fun c5 => ?_)
      refine lv_iload_n hx hb dX0_spare_8 rfl (lv_at hl 1 rfl) ?_
      refine lv_iconst (v := (nI 5)) hx hb dX0_spare_9 (by decide) ?_
      refine n_icmp_ge (tgt := 21) hx hb dX0_spare_10 (by decide) (by omega) (by omega) (fun c10 => ?_) (fun c10 => ?_)
      · skip
        refine lv_iconst (v := (-1)) hx hb dX0_spare_21 (by decide) ?_
        exact hret _ _ _ _ _ (c, t, v, S, K, R, O) _ h (pubX_i (by simp only [sp_spare, ha, hb2, if_pos c10])) hrt rfl dX0_spare_22
      · skip
        refine lv_aload_n hx hb dX0_spare_13 rfl (lv_at hl 0 rfl) ?_
        refine lv_iload_n hx hb dX0_spare_14 rfl (lv_at hl 2 rfl) ?_
        refine x_callr (x := nI 0) G h (mX_missingList0 l D ad cI cB c t v S K R O i hc (by omega)) kX_missingList rfl ⟨Nat.le_of_ble_eq_true rfl, Nat.le_of_ble_eq_true rfl, Nat.le_refl _, Nat.le_refl _⟩ hl.1 rfl (Nat.le_of_ble_eq_true rfl) dX0_spare_15 (fun H locs h => ?_)
        refine n_if_eq (tgt := 23) hx hb dX0_spare_18 (by decide) (by omega) (fun c18 => ?_) (fun c18 => absurd c18 (by omega))
        refine lv_aload_n hx hb dX0_spare_23 rfl (lv_at hl 0 rfl) ?_
        refine x_getV G h dX0_spare_24 ?_
        refine lv_iload_n hx hb dX0_spare_27 rfl (lv_at hl 2 rfl) ?_
        refine x_ldV G h (by omega) dX0_spare_28 ?_
        refine lv_istore_n (lv' := [(3, .int (nI (v i))), (0, .ref (ad 0)), (1, .int (nI r)), (2, .int (nI i))]) hx hb dX0_spare_29 rfl hl (by decide) rfl (fun ls hl => ?_)
        refine lv_aload_n hx hb dX0_spare_30 rfl (lv_at hl 1 rfl) ?_
        refine lv_iload_n hx hb dX0_spare_31 rfl (lv_at hl 2 rfl) ?_
        refine lv_iload_n hx hb dX0_spare_32 rfl (lv_at hl 3 rfl) ?_
        refine lv_iload_n hx hb dX0_spare_33 rfl (lv_at hl 0 rfl) ?_
        refine x_calli G h (mX_shareWith l D ad cI cB c t v S K R O r i (v i) (by omega) hc (by omega) hv3 (by have := hv i hi; omega) ht) kX_shareWith rfl ⟨Nat.le_of_ble_eq_true rfl, Nat.le_of_ble_eq_true rfl, Nat.le_refl _, Nat.le_refl _⟩ hl.1 rfl (Nat.le_of_ble_eq_true rfl) dX0_spare_34 (fun r1 c1 t1 v1 Sb1 K1 Rb1 Ob1 H locs hp h => ?_)
        obtain ⟨rfl, S2, R2, O2, e1⟩ := hp
        cases e1
        refine lv_istore (lv' := [(4, .int (nI (shW r v c t i (v i)))), (3, .int (nI (v i))), (0, .ref (ad 0)), (1, .int (nI r)), (2, .int (nI i))]) hx hb dX0_spare_37 hl (by decide) rfl (fun ls hl => ?_)
        refine lv_iconst (v := (nI 0)) hx hb dX0_spare_39 (by decide) ?_
        refine lv_istore (lv' := [(5, .int (nI 0)), (4, .int (nI (shW r v c t i (v i)))), (3, .int (nI (v i))), (0, .ref (ad 0)), (1, .int (nI r)), (2, .int (nI i))]) hx hb dX0_spare_40 hl (by decide) rfl (fun ls hl => ?_)
        refine lv_iload_n hx hb dX0_spare_42 rfl (lv_at hl 2 rfl) ?_
        refine lv_iconst (v := (nI 1)) hx hb dX0_spare_43 (by decide) ?_
        refine n_iadd hx hb dX0_spare_44 ?_
        refine lv_istore (lv' := [(6, .int (nI ((v i) + 1))), (5, .int (nI 0)), (4, .int (nI (shW r v c t i (v i)))), (3, .int (nI (v i))), (0, .ref (ad 0)), (1, .int (nI r)), (2, .int (nI i))]) hx hb dX0_spare_45 hl (by decide) rfl (fun ls hl => ?_)
        have L47 : ∀ (n47 : Nat) (hg : Nat) (lw : Nat) (S1 : Nat → Int32) (R1 : Nat → Int32) (O1 : Nat → Int32), hg - lw < n47 → (lw < hg) → (hg ≤ v i + 1) → (shW r v c t i (v i - lw) = shW r v c t i (v i)) → (hg = v i + 1 ∨ ¬ shW r v c t i (v i - hg) = shW r v c t i (v i)) → ∀ (H : Heap) (locs : List Loc), HX D A ad cI cB s.heap c t v S1 K R1 O1 H locs → ∀ (ls : Array Slot), lv_has ls 9 [(0, .ref (ad 0)), (1, .int (nI r)), (2, .int (nI i)), (3, .int (nI (v i))), (4, .int (nI (shW r v c t i (v i)))), (5, .int (nI lw)), (6, .int (nI hg))] → W p l e (rmm 6 157) s m args below meth cd H locs 0 0 Q (F0 m 47 ls []) := by
          intro n47
          induction n47 with
          | zero =>
            intro hg lw S1 R1 O1 hm
            exact absurd hm (Nat.not_lt_zero _)
          | succ n47 ih47 =>
            intro hg lw S1 R1 O1 hm47 h1 h2 h3 h4 H locs h ls hl
            have hvi := hv i hi
            refine lv_iload hx hb dX0_spare_47 (lv_at hl 6 rfl) ?_
            refine lv_iload hx hb dX0_spare_49 (lv_at hl 5 rfl) ?_
            refine n_isub hx hb dX0_spare_51 (by omega) ?_
            refine lv_iconst (v := (nI 1)) hx hb dX0_spare_52 (by decide) ?_
            refine n_icmp_le (tgt := 98) hx hb dX0_spare_53 (by decide) (by omega) (by omega) (fun c53 => ?_) (fun c53 => ?_)
            · skip
              refine lv_iload hx hb dX0_spare_98 (lv_at hl 5 rfl) ?_
              exact hret _ _ _ _ _ (c, t, v, S1, K, R1, O1) _ h (pubX_i (by simp only [sp_spare, ha, hb2, if_neg (show ¬ 5 ≤ r by omega)]; rw [(gst_at (P := (fun m => decide (shW r v c t i (v i - m) = shW r v c t i (v i)))) (show lw ≤ v i by omega) (Or.inr (decide_eq_true h3)) (fun m hm1 hm2 => decide_eq_false (fun z => by rcases h4 with q | q; exact absurd q (by omega); exact q (Nat.le_antisymm (shW_mono (by omega) hi (by omega)) (z ▸ shW_mono (by omega) hi (by omega))))))])) hrt rfl dX0_spare_100
            · skip
              refine lv_iload hx hb dX0_spare_56 (lv_at hl 5 rfl) ?_
              refine lv_iload hx hb dX0_spare_58 (lv_at hl 6 rfl) ?_
              refine n_iadd hx hb dX0_spare_60 ?_
              refine lv_iconst (v := (nI 2)) hx hb dX0_spare_61 (by decide) ?_
              refine n_idiv hx hb dX0_spare_62 (by omega) (by omega) (by omega) ?_
              refine lv_istore (lv' := [(7, .int (nI ((lw + hg) / 2))), (0, .ref (ad 0)), (1, .int (nI r)), (2, .int (nI i)), (3, .int (nI (v i))), (4, .int (nI (shW r v c t i (v i)))), (5, .int (nI lw)), (6, .int (nI hg))]) hx hb dX0_spare_63 hl (by decide) rfl (fun ls hl => ?_)
              refine lv_aload_n hx hb dX0_spare_65 rfl (lv_at hl 1 rfl) ?_
              refine lv_iload_n hx hb dX0_spare_66 rfl (lv_at hl 2 rfl) ?_
              refine lv_iload_n hx hb dX0_spare_67 rfl (lv_at hl 3 rfl) ?_
              refine lv_iload_n hx hb dX0_spare_68 rfl (lv_at hl 4 rfl) ?_
              refine lv_iload hx hb dX0_spare_69 (lv_at hl 0 rfl) ?_
              refine n_isub hx hb dX0_spare_71 (by omega) ?_
              refine x_calli G h (mX_shareWith l D ad cI cB c t v S1 K R1 O1 r i ((v i) - ((lw + hg) / 2)) (by omega) hc (by omega) hv3 (by have := hv i hi; omega) ht) kX_shareWith rfl ⟨Nat.le_of_ble_eq_true rfl, Nat.le_of_ble_eq_true rfl, Nat.le_refl _, Nat.le_refl _⟩ hl.1 rfl (Nat.le_of_ble_eq_true rfl) dX0_spare_72 (fun r1 c1 t1 v1 Sb2 K1 Rb2 Ob2 H locs hp h => ?_)
              obtain ⟨rfl, S2, R2, O2, e1⟩ := hp
              cases e1
              refine lv_istore (lv' := [(8, .int (nI (shW r v c t i ((v i) - ((lw + hg) / 2))))), (7, .int (nI ((lw + hg) / 2))), (0, .ref (ad 0)), (1, .int (nI r)), (2, .int (nI i)), (3, .int (nI (v i))), (4, .int (nI (shW r v c t i (v i)))), (5, .int (nI lw)), (6, .int (nI hg))]) hx hb dX0_spare_75 hl (by decide) rfl (fun ls hl => ?_)
              refine lv_iload hx hb dX0_spare_77 (lv_at hl 0 rfl) ?_
              refine lv_iload hx hb dX0_spare_79 (lv_at hl 6 rfl) ?_
              refine n_icmp_ne (tgt := 91) hx hb dX0_spare_81 (by decide) (by have := sh_le (r := r) (v := va_up v i (v i - (lw + hg) / 2)) (n := t) hi; show shW r v c t i _ < _; unfold shW; omega) (by have := sh_le (r := r) (v := va_up v i (v i)) (n := t) hi; show shW r v c t i _ < _; unfold shW; omega) (fun c81 => ?_) (fun c81 => ?_)
              · skip
                refine lv_iload hx hb dX0_spare_91 (lv_at hl 1 rfl) ?_
                refine lv_istore (lv' := [(6, .int (nI ((lw + hg) / 2))), (8, .int (nI (shW r v c t i ((v i) - ((lw + hg) / 2))))), (7, .int (nI ((lw + hg) / 2))), (0, .ref (ad 0)), (1, .int (nI r)), (2, .int (nI i)), (3, .int (nI (v i))), (4, .int (nI (shW r v c t i (v i)))), (5, .int (nI lw))]) hx hb dX0_spare_93 hl (by decide) rfl (fun ls hl => ?_)
                refine lv_goto (tgt := 47) hx hb dX0_spare_95 (by decide) ?_
                exact ih47 ((lw + hg) / 2) lw Sb2 Rb2 Ob2 (by omega) (by omega) (by omega) h3 (Or.inr c81) _ _ h _ (lv_sub hl [3, 4, 5, 6, 7, 8, 0] rfl)
              · skip
                refine lv_iload hx hb dX0_spare_84 (lv_at hl 1 rfl) ?_
                refine lv_istore (lv' := [(5, .int (nI ((lw + hg) / 2))), (8, .int (nI (shW r v c t i ((v i) - ((lw + hg) / 2))))), (7, .int (nI ((lw + hg) / 2))), (0, .ref (ad 0)), (1, .int (nI r)), (2, .int (nI i)), (3, .int (nI (v i))), (4, .int (nI (shW r v c t i (v i)))), (6, .int (nI hg))]) hx hb dX0_spare_86 hl (by decide) rfl (fun ls hl => ?_)
                refine lv_goto (tgt := 95) hx hb dX0_spare_88 (by decide) ?_
                refine lv_goto (tgt := 47) hx hb dX0_spare_95 (by decide) ?_
                exact ih47 hg ((lw + hg) / 2) Sb2 Rb2 Ob2 (by omega) (by omega) (by omega) c81 h4 _ _ h _ (lv_sub hl [3, 4, 5, 6, 7, 0, 8] rfl)
        exact L47 _ (v i + 1) 0 Sb1 Rb1 Ob1 (Nat.lt_succ_self _) (by omega) (by omega) rfl (Or.inl rfl) _ _ h _ (lv_sub hl [4, 5, 6, 3, 2, 1, 0] rfl)
end
section
set_option maxRecDepth 100000
/-! ===== the reference's comparison; the order of the rests ===== -/
def woM (r : Nat) (v s : Nat → Nat) (i : Nat) : Nat := if r = 3 ∧ 0 < s i then v i * v i else v i
def gr (r : Nat) (v s : Nat → Nat) (i j : Nat) : Bool :=
  if dv r (s i) = 0 ∧ dv r (s j) = 0 then decide (v j < v i) else decide (woM r v s j * dv r (s i) < woM r v s i * dv r (s j))
theorem woM_le {r i : Nat} {v s : Nat → Nat} (h : v i ≤ 2999) : woM r v s i ≤ 8994001 := by
  have h2 : v i * v i ≤ 2999 * 2999 := Nat.mul_le_mul h h
  unfold woM
  split <;> omega
theorem woM_wo {r i : Nat} {v s : Nat → Nat} (h : dv r (s i) ≠ 0) : woM r v s i = wo r v i := by
  unfold woM wo
  by_cases hr : r = 3
  · have : 0 < s i := Nat.pos_of_ne_zero (fun q => h (by rw [q, hr]; rfl))
    rw [if_pos ⟨hr, this⟩, if_pos hr]
  · rw [if_neg (fun q => hr q.1), if_neg hr]
theorem woM_pos {r i : Nat} {v s : Nat → Nat} (h : 0 < v i) : 0 < woM r v s i := by
  have := Nat.mul_pos h h
  unfold woM
  split <;> omega
theorem wo_lt {r i j : Nat} {v : Nat → Nat} : wo r v j < wo r v i ↔ v j < v i := by
  unfold wo
  split
  · constructor
    · intro h
      exact Nat.not_le.mp (fun q => by have := Nat.mul_le_mul q q; omega)
    · intro h
      exact Nat.mul_lt_mul_of_lt_of_le h (Nat.le_of_lt h) (by omega)
  · exact Iff.rfl
theorem gr_bef {r i j : Nat} {v s : Nat → Nat} (hij : j < i) (hi : 0 < v i) (hj : 0 < v j) : gr r v s i j = bef r v i (s i) j (s j) := by
  unfold gr bef
  by_cases ha : dv r (s i) = 0
  · by_cases hb : dv r (s j) = 0
    · rw [if_pos ⟨ha, hb⟩, if_pos (Or.inl ha)]
      have e := wo_lt (r := r) (v := v) (i := i) (j := j)
      have e2 := wo_lt (r := r) (v := v) (i := j) (j := i)
      by_cases hx : wo r v i = wo r v j
      · rw [if_pos ⟨by omega, hx⟩, decide_eq_false (by omega), decide_eq_false (by omega)]
      · rw [if_neg (fun q => hx q.2), if_pos (by omega)]
        by_cases hlt : v j < v i
        · rw [decide_eq_true hlt, decide_eq_true (e.mpr hlt)]
        · rw [decide_eq_false hlt, decide_eq_false (fun q => hlt (e.mp q))]
    · rw [if_neg (fun q => hb q.2), if_pos (Or.inl ha), if_neg (by omega), if_neg (by omega), decide_eq_true ha, ha]
      exact decide_eq_true (by
        have := Nat.mul_pos (woM_pos (r := r) (s := s) hi) (Nat.pos_of_ne_zero hb)
        omega)
  · by_cases hb : dv r (s j) = 0
    · rw [if_neg (fun q => ha q.1), if_pos (Or.inr hb), if_neg (by omega), if_neg (by omega), decide_eq_false ha, hb]
      exact decide_eq_false (by omega)
    · rw [if_neg (fun q => ha q.1), if_neg (by omega), woM_wo ha, woM_wo hb]
      by_cases hx : wo r v i * dv r (s j) = wo r v j * dv r (s i)
      · rw [if_pos hx, decide_eq_false (by omega), decide_eq_false (by omega)]
      · rw [if_neg hx]
/-- i comes ahead of j by its rest -/
def Bt (rm : Nat → Nat) (i j : Nat) : Prop := rm j < rm i ∨ (rm j = rm i ∧ i < j)
theorem insF_shape {rm : Nat → Nat} {i : Nat} : ∀ {a : Nat} {o : Nat → Nat}, ∃ t, t ≤ a ∧ (∀ p, p < t → insF rm i a o p = o p) ∧ insF rm i a o t = i ∧ (∀ p, t < p → p ≤ a → insF rm i a o p = o (p - 1)) ∧ (∀ p, a < p → insF rm i a o p = o p) ∧ (∀ p, t ≤ p → p < a → rm (o p) < rm i) ∧ (t = 0 ∨ rm i ≤ rm (o (t - 1)))
  | 0, o => ⟨0, Nat.le_refl _, fun p h => by omega, vu_eq, fun p h1 h2 => by omega, fun p h => vu_ne (by omega), fun p h1 h2 => by omega, Or.inl rfl⟩
  | a + 1, o => by
    by_cases hlt : rm (o a) < rm i
    · obtain ⟨t, h1, h2, h3, h4, h5, h6, h7⟩ := insF_shape (rm := rm) (i := i) (a := a) (o := va_up o (a + 1) (o a))
      have e : insF rm i (a + 1) o = insF rm i a (va_up o (a + 1) (o a)) := by rw [insF, if_pos hlt]
      refine ⟨t, by omega, fun p hp => ?_, ?_, fun p hp1 hp2 => ?_, fun p hp => ?_, fun p hp1 hp2 => ?_, ?_⟩
      · rw [e, h2 p hp, vu_ne (by omega)]
      · rw [e, h3]
      · by_cases hpa : p = a + 1
        · subst hpa
          rw [e, h5 (a + 1) (by omega), vu_eq]
          rfl
        · rw [e, h4 p hp1 (by omega), vu_ne (by omega)]
      · rw [e, h5 p (by omega), vu_ne (by omega)]
      · by_cases hpa : p = a
        · subst hpa; exact hlt
        · have := h6 p hp1 (by omega)
          rw [vu_ne (by omega)] at this
          exact this
      · rcases h7 with h7 | h7
        · exact Or.inl h7
        · by_cases ht : t = 0
          · exact Or.inl ht
          · rw [vu_ne (by omega)] at h7
            exact Or.inr h7
    · have e : insF rm i (a + 1) o = va_up o (a + 1) i := by rw [insF, if_neg hlt]
      refine ⟨a + 1, Nat.le_refl _, fun p hp => ?_, ?_, fun p hp1 hp2 => ?_, fun p hp => ?_, fun p hp1 hp2 => ?_, ?_⟩
      · rw [e, vu_ne (by omega)]
      · rw [e, vu_eq]
      · omega
      · rw [e, vu_ne (by omega)]
      · omega
      · exact Or.inr (by simpa using Nat.not_lt.mp hlt)
/-- o lists the places below i with votes, each ahead of the next -/
def Ord (v rm : Nat → Nat) (i ab : Nat) (o : Nat → Nat) : Prop :=
  (∀ p, p < ab → o p < i ∧ 0 < v (o p)) ∧ (∀ p q, p < q → q < ab → Bt rm (o p) (o q)) ∧ ∀ j, j < i → 0 < v j → ∃ p, p < ab ∧ o p = j
theorem Ord.ins {v rm : Nat → Nat} {i ab : Nat} {o : Nat → Nat} (h : Ord v rm i ab o) (hv : 0 < v i) : Ord v rm (i + 1) (ab + 1) (insF rm i ab o) := by
  obtain ⟨t, h1, h2, h3, h4, -, h6, h7⟩ := insF_shape (rm := rm) (i := i) (a := ab) (o := o)
  obtain ⟨o1, o2, o3⟩ := h
  have ahead : ∀ p, p < t → Bt rm (o p) i := by
    intro p hp
    have hpi := (o1 p (by omega)).1
    rcases h7 with h7 | h7
    · omega
    · by_cases hpt : p = t - 1
      · subst hpt
        unfold Bt
        omega
      · have := o2 p (t - 1) (by omega) (by omega)
        unfold Bt at *
        omega
  refine ⟨fun p hp => ?_, fun p q hpq hq => ?_, fun j hj hjv => ?_⟩
  · rcases Nat.lt_trichotomy p t with a | a | a
    · rw [h2 p a]
      have := o1 p (by omega)
      exact ⟨by omega, this.2⟩
    · rw [a, h3]
      exact ⟨by omega, hv⟩
    · rw [h4 p a (by omega)]
      have := o1 (p - 1) (by omega)
      exact ⟨by omega, this.2⟩
  · rcases Nat.lt_trichotomy q t with a | a | a
    · rw [h2 p (by omega), h2 q a]
      exact o2 p q hpq (by omega)
    · rw [a, h3, h2 p (by omega)]
      exact ahead p (by omega)
    · rw [h4 q a (by omega)]
      rcases Nat.lt_trichotomy p t with b | b | b
      · rw [h2 p b]
        exact o2 p (q - 1) (by omega) (by omega)
      · rw [b, h3]
        exact Or.inl (h6 (q - 1) (by omega) (by omega))
      · rw [h4 p b (by omega)]
        exact o2 (p - 1) (q - 1) (by omega) (by omega)
  · by_cases hji : j = i
    · exact ⟨t, by omega, by rw [h3, hji]⟩
    · obtain ⟨p, hp, e⟩ := o3 j (by omega) hjv
      rcases Nat.lt_or_ge p t with a | a
      · exact ⟨p, by omega, by rw [h2 p a, e]⟩
      · exact ⟨p + 1, by omega, by rw [h4 (p + 1) (by omega) (by omega)]; exact e⟩
theorem Ord.all {v rm : Nat → Nat} : ∀ {i : Nat}, Ord v rm i (cntP v i) (orS v rm i)
  | 0 => ⟨fun p h => by simp [cntP] at h, fun p q _ h => by simp [cntP] at h, fun j h _ => by omega⟩
  | i + 1 => by
    have ih := Ord.all (v := v) (rm := rm) (i := i)
    by_cases hv : 0 < v i
    · rw [orS_1 hv, cntP_1 hv]
      exact ih.ins hv
    · have hv0 : v i = 0 := by omega
      rw [orS_0 hv0, cntP_0 hv0]
      obtain ⟨o1, o2, o3⟩ := ih
      exact ⟨fun p hp => ⟨by have := (o1 p hp).1; omega, (o1 p hp).2⟩, o2, fun j hj hjv => o3 j (by
        have : j ≠ i := fun q => by subst q; omega
        omega) hjv⟩
/-- the reference's choice among those that are still free -/
def opn (v : Nat → Nat) (dm i : Nat) : Prop := 0 < v i ∧ Nat.testBit dm i = false
def bsx (v rm : Nat → Nat) (dm i : Nat) : Option Nat → Option Nat
  | none => if 0 < v i ∧ Nat.testBit dm i = false then some i else none
  | some j => if (0 < v i ∧ Nat.testBit dm i = false) ∧ rm j < rm i then some i else some j
def bsS (v rm : Nat → Nat) (dm : Nat) : Nat → Option Nat
  | 0 => none
  | i + 1 => bsx v rm dm i (bsS v rm dm i)
theorem bsS_s {v rm : Nat → Nat} {dm i : Nat} : bsS v rm dm (i + 1) = bsx v rm dm i (bsS v rm dm i) := rfl
theorem bsx_0 {v rm : Nat → Nat} {dm i : Nat} {b : Option Nat} (h : ¬ (0 < v i ∧ Nat.testBit dm i = false)) : bsx v rm dm i b = b := by
  cases b with
  | none => rw [bsx, if_neg h]
  | some j => rw [bsx, if_neg (fun q => h q.1)]
theorem bsS_none {v rm : Nat → Nat} {dm : Nat} : ∀ {c : Nat}, bsS v rm dm c = none → ∀ j, j < c → ¬ opn v dm j
  | 0, _, j, hj => by omega
  | c + 1, h, j, hj => by
    rw [bsS_s] at h
    cases hq : bsS v rm dm c with
    | none =>
      have h0 := bsS_none hq
      rw [hq] at h
      simp only [bsx] at h
      split at h
      · cases h
      · rename_i q
        by_cases hjc : j = c
        · subst hjc; exact q
        · exact h0 j (by omega)
    | some k =>
      rw [hq] at h
      simp only [bsx] at h
      split at h <;> cases h
theorem bsS_some {v rm : Nat → Nat} {dm : Nat} : ∀ {c b : Nat}, bsS v rm dm c = some b → b < c ∧ opn v dm b ∧ ∀ j, j < c → j ≠ b → opn v dm j → Bt rm b j
  | 0, b, h => by simp [bsS] at h
  | c + 1, b, h => by
    rw [bsS_s] at h
    cases hq : bsS v rm dm c with
    | none =>
      have h0 := bsS_none hq
      rw [hq] at h
      simp only [bsx] at h
      split at h
      · rename_i q
        cases h
        exact ⟨by omega, q, fun j hj hjb ho => absurd ho (h0 j (by omega))⟩
      · cases h
    | some k =>
      obtain ⟨k1, k2, k3⟩ := bsS_some (c := c) hq
      rw [hq] at h
      simp only [bsx] at h
      split at h
      · rename_i q
        cases h
        refine ⟨by omega, q.1, fun j hj hjb ho => ?_⟩
        by_cases hjk : j = k
        · subst hjk; exact Or.inl q.2
        · have := k3 j (by omega) hjk ho
          have q2 := q.2
          unfold Bt at *
          omega
      · rename_i q
        cases h
        refine ⟨by omega, k2, fun j hj hjb ho => ?_⟩
        by_cases hjc : j = c
        · subst hjc
          have : ¬ rm b < rm j := fun z => q ⟨ho, z⟩
          unfold Bt
          omega
        · exact k3 j (by omega) hjb ho
/-- the done ones are the first kk of the order -/
def Dn (o : Nat → Nat) (kk dm : Nat) : Prop := dm < 64 ∧ ∀ i, i < 6 → (Nat.testBit dm i = true ↔ ∃ p, p < kk ∧ o p = i)
theorem Ord.inj {v rm : Nat → Nat} {i ab : Nat} {o : Nat → Nat} (h : Ord v rm i ab o) {p q : Nat} (hp : p < ab) (hq : q < ab) (e : o p = o q) : p = q := by
  rcases Nat.lt_trichotomy p q with a | a | a
  · have := h.2.1 p q a hq
    rw [e] at this
    unfold Bt at this
    omega
  · exact a
  · have := h.2.1 q p a hp
    rw [e] at this
    unfold Bt at this
    omega
theorem bsS_pick {v rm : Nat → Nat} {c ab kk dm : Nat} {o : Nat → Nat} (h : Ord v rm c ab o) (hc : c ≤ 6) (hd : Dn o kk dm) (hk : kk < ab) : bsS v rm dm c = some (o kk) := by
  have ok := h.1 kk hk
  have op : opn v dm (o kk) := ⟨ok.2, by
    cases hq : Nat.testBit dm (o kk) with
    | false => rfl
    | true =>
      obtain ⟨p, h1, h2⟩ := (hd.2 (o kk) (by omega)).mp hq
      have := h.inj (by omega) hk h2
      omega⟩
  cases hq : bsS v rm dm c with
  | none => exact absurd op (bsS_none hq (o kk) ok.1)
  | some b =>
    obtain ⟨b1, b2, b3⟩ := bsS_some hq
    obtain ⟨q, q1, q2⟩ := h.2.2 b b1 b2.1
    rcases Nat.lt_trichotomy q kk with a | a | a
    · have := (hd.2 b (by omega)).mpr ⟨q, a, q2⟩
      rw [b2.2] at this
      cases this
    · rw [← q2, a]
    · have w1 := h.2.1 kk q a q1
      rw [q2] at w1
      have hne : o kk ≠ b := fun z => by
        have := h.inj hk q1 (z.trans q2.symm)
        omega
      have w2 := b3 (o kk) ok.1 hne op
      unfold Bt at w1 w2
      omega
theorem bsS_end {v rm : Nat → Nat} {c ab dm : Nat} {o : Nat → Nat} (h : Ord v rm c ab o) (hc : c ≤ 6) (hd : Dn o ab dm) : bsS v rm dm c = none := by
  cases hq : bsS v rm dm c with
  | none => rfl
  | some b =>
    obtain ⟨b1, b2, -⟩ := bsS_some hq
    obtain ⟨q, q1, q2⟩ := h.2.2 b b1 b2.1
    have := (hd.2 b (by omega)).mpr ⟨q, q1, q2⟩
    rw [b2.2] at this
    cases this
/-- the mask as the reference holds it -/
def bt1 (dm i : Nat) : Nat := if Nat.testBit dm i then 1 else 0
theorem mask_bit : ∀ dm, dm < 64 → ∀ i, i < 6 → (nI dm >>> (nI i &&& 31)) &&& nI 1 = nI (bt1 dm i) := by decide +kernel
theorem mask_or : ∀ dm, dm < 64 → ∀ i, i < 6 → nI dm ||| (nI 1 <<< (nI i &&& 31)) = nI (dm ||| 2 ^ i) := by decide +kernel
theorem mask_or_bits : ∀ dm, dm < 64 → ∀ i, i < 6 → (dm ||| 2 ^ i) < 64 ∧ ∀ j, j < 6 → Nat.testBit (dm ||| 2 ^ i) j = (Nat.testBit dm j || decide (j = i)) := by decide +kernel
theorem Dn.zero {o : Nat → Nat} : Dn o 0 0 := ⟨by decide, fun i _ => by
  rw [Nat.zero_testBit]
  constructor
  · intro h; cases h
  · rintro ⟨p, h, -⟩; omega⟩
theorem Dn.add {o : Nat → Nat} {kk dm : Nat} (h : Dn o kk dm) (ho : o kk < 6) : Dn o (kk + 1) (dm ||| 2 ^ (o kk)) := by
  obtain ⟨m1, m2⟩ := mask_or_bits dm h.1 (o kk) ho
  refine ⟨m1, fun i hi => ?_⟩
  rw [m2 i hi, Bool.or_eq_true, h.2 i hi, decide_eq_true_iff]
  constructor
  · rintro (⟨p, h1, h2⟩ | e)
    · exact ⟨p, by omega, h2⟩
    · exact ⟨kk, by omega, e.symm⟩
  · rintro ⟨p, h1, h2⟩
    by_cases hp : p = kk
    · subst hp; exact Or.inr h2.symm
    · exact Or.inl ⟨p, by omega, h2⟩
theorem bt1_0 {dm i : Nat} (h : bt1 dm i = 0) : Nat.testBit dm i = false := by
  unfold bt1 at h
  split at h
  · cases h
  · rename_i q
    cases hq : Nat.testBit dm i with
    | false => rfl
    | true => exact absurd hq q
theorem bt1_1 {dm i : Nat} (h : 0 < bt1 dm i) : Nat.testBit dm i = true := by
  unfold bt1 at h
  split at h
  · assumption
  · omega
end
section
set_option maxRecDepth 100000
theorem rel_up {F : Nat → Int32} {s : Nat → Nat} {c b x : Nat} (h : ∀ j, j < c → F j = nI (s j)) : ∀ j, j < c → upd F b (nI x) j = nI (va_up s b x j) := by
  intro j hj
  by_cases hq : j = b
  · subst hq; simp [upd, va_up]
  · simp [upd, va_up, hq, h j hj]
theorem sum_0 {c : Nat} : sumTo (fun _ => 0) c = 0 := by
  induction c with
  | zero => rfl
  | succ c ih => exact ih
set_option maxHeartbeats 4000000 in
theorem mY_noVotes (l : Launch) (D : va_G) (ad : Nat → Nat) (cI : ClassId) (c t : Nat) (v : Nat → Nat) (S K : Nat → Int32) (a : Int32) : Mi l D (tyY cI) (WY ad cI) yX1_noVotes cX1_noVotes 2 (some .boolean) 0 0 (ad 0) [.int a] (c, t, v, S, K) (fun z u => z = bz (ix 1000 a) ∧ u = (c, t, v, S, K)) := by
  refine Mi.of (by decide) (Nat.le_of_ble_eq_true rfl) ?_
  intro p e s m args below meth cd A ls Q G hrt h hl hret
  have G : GY D A cI p s m args cd cX1_noVotes 2 := G
  have h : HY D A ad cI s.heap c t v S K s.heap [] := h
  have hl : lv_has ls 2 [(0, .ref (ad 0)), (1, .int a)] := hl
  have hx := G.1.1
  have hb := G.1.2.1
  refine lv_iload_n hx hb dX1_noVotes_0 rfl (lv_at hl 1 rfl) ?_
  refine lv_if_lt (tgt := 11) hx hb dX1_noVotes_1 (by decide) (fun c1 => ?_) (fun c1 => ?_)
  · skip
    refine lv_iconst (v := (nI 1)) hx hb dX1_noVotes_11 (by decide) ?_
    refine lv_goto (tgt := 16) hx hb dX1_noVotes_12 (by decide) ?_
    exact hret _ _ _ _ _ (c, t, v, S, K) _ h ⟨by rw [ix_neg c1]; rfl, rfl⟩ hrt rfl dX1_noVotes_16
  · skip
    refine lv_iload_n hx hb dX1_noVotes_4 rfl (lv_at hl 1 rfl) ?_
    refine lv_sipush (v := (nI 999)) hx hb dX1_noVotes_5 (by decide) ?_
    refine lv_icmp_le (tgt := 15) hx hb dX1_noVotes_8 (by decide) (fun c8 => ?_) (fun c8 => ?_)
    · skip
      refine lv_iconst (v := (nI 0)) hx hb dX1_noVotes_15 (by decide) ?_
      exact hret _ _ _ _ _ (c, t, v, S, K) _ h ⟨by obtain ⟨i, q⟩ := ix_mem (by decide) c1 ((ix_le (by decide)).mp c8); rw [q]; rfl, rfl⟩ hrt rfl dX1_noVotes_16
    · skip
      refine lv_iconst (v := (nI 1)) hx hb dX1_noVotes_11 (by decide) ?_
      refine lv_goto (tgt := 16) hx hb dX1_noVotes_12 (by decide) ?_
      exact hret _ _ _ _ _ (c, t, v, S, K) _ h ⟨by rw [ix_big (by decide) (fun q => c8 ((ix_le (by decide)).mpr q))]; rfl, rfl⟩ hrt rfl dX1_noVotes_16
theorem mY_noVotes0 (l : Launch) (D : va_G) (ad : Nat → Nat) (cI : ClassId) (c t : Nat) (v : Nat → Nat) (S K : Nat → Int32) (i : Nat) (hi : i < 1000) : Mi l D (tyY cI) (WY ad cI) yX1_noVotes cX1_noVotes 2 (some .boolean) 0 0 (ad 0) [.int (nI i)] (c, t, v, S, K) (fun r u => r = nI 0 ∧ u = (c, t, v, S, K)) := by
  have q := mY_noVotes l D ad cI c t v S K (nI i)
  rw [ix_nI (by decide) hi] at q
  exact q
theorem mY_noVotes1 (l : Launch) (D : va_G) (ad : Nat → Nat) (cI : ClassId) (c t : Nat) (v : Nat → Nat) (S K : Nat → Int32) (a : Int32) (ha : ix 1000 a = none) : Mi l D (tyY cI) (WY ad cI) yX1_noVotes cX1_noVotes 2 (some .boolean) 0 0 (ad 0) [.int a] (c, t, v, S, K) (fun r u => r = nI 1 ∧ u = (c, t, v, S, K)) := by
  have q := mY_noVotes l D ad cI c t v S K a
  rw [ha] at q
  exact q
set_option maxHeartbeats 4000000 in
theorem mY_noRule (l : Launch) (D : va_G) (ad : Nat → Nat) (cI : ClassId) (c t : Nat) (v : Nat → Nat) (S K : Nat → Int32) (a : Int32) : Mi l D (tyY cI) (WY ad cI) yX1_noRule cX1_noRule 2 (some .boolean) 0 0 (ad 0) [.int a] (c, t, v, S, K) (fun z u => z = bz (ix 7 a) ∧ u = (c, t, v, S, K)) := by
  refine Mi.of (by decide) (Nat.le_of_ble_eq_true rfl) ?_
  intro p e s m args below meth cd A ls Q G hrt h hl hret
  have G : GY D A cI p s m args cd cX1_noRule 2 := G
  have h : HY D A ad cI s.heap c t v S K s.heap [] := h
  have hl : lv_has ls 2 [(0, .ref (ad 0)), (1, .int a)] := hl
  have hx := G.1.1
  have hb := G.1.2.1
  refine lv_iload_n hx hb dX1_noRule_0 rfl (lv_at hl 1 rfl) ?_
  refine lv_if_lt (tgt := 10) hx hb dX1_noRule_1 (by decide) (fun c1 => ?_) (fun c1 => ?_)
  · skip
    refine lv_iconst (v := (nI 1)) hx hb dX1_noRule_10 (by decide) ?_
    refine lv_goto (tgt := 15) hx hb dX1_noRule_11 (by decide) ?_
    exact hret _ _ _ _ _ (c, t, v, S, K) _ h ⟨by rw [ix_neg c1]; rfl, rfl⟩ hrt rfl dX1_noRule_15
  · skip
    refine lv_iload_n hx hb dX1_noRule_4 rfl (lv_at hl 1 rfl) ?_
    refine lv_bipush (v := (nI 6)) hx hb dX1_noRule_5 (by decide) ?_
    refine lv_icmp_le (tgt := 14) hx hb dX1_noRule_7 (by decide) (fun c7 => ?_) (fun c7 => ?_)
    · skip
      refine lv_iconst (v := (nI 0)) hx hb dX1_noRule_14 (by decide) ?_
      exact hret _ _ _ _ _ (c, t, v, S, K) _ h ⟨by obtain ⟨i, q⟩ := ix_mem (by decide) c1 ((ix_le (by decide)).mp c7); rw [q]; rfl, rfl⟩ hrt rfl dX1_noRule_15
    · skip
      refine lv_iconst (v := (nI 1)) hx hb dX1_noRule_10 (by decide) ?_
      refine lv_goto (tgt := 15) hx hb dX1_noRule_11 (by decide) ?_
      exact hret _ _ _ _ _ (c, t, v, S, K) _ h ⟨by rw [ix_big (by decide) (fun q => c7 ((ix_le (by decide)).mpr q))]; rfl, rfl⟩ hrt rfl dX1_noRule_15
theorem mY_noRule0 (l : Launch) (D : va_G) (ad : Nat → Nat) (cI : ClassId) (c t : Nat) (v : Nat → Nat) (S K : Nat → Int32) (i : Nat) (hi : i < 7) : Mi l D (tyY cI) (WY ad cI) yX1_noRule cX1_noRule 2 (some .boolean) 0 0 (ad 0) [.int (nI i)] (c, t, v, S, K) (fun r u => r = nI 0 ∧ u = (c, t, v, S, K)) := by
  have q := mY_noRule l D ad cI c t v S K (nI i)
  rw [ix_nI (by decide) hi] at q
  exact q
theorem mY_noRule1 (l : Launch) (D : va_G) (ad : Nat → Nat) (cI : ClassId) (c t : Nat) (v : Nat → Nat) (S K : Nat → Int32) (a : Int32) (ha : ix 7 a = none) : Mi l D (tyY cI) (WY ad cI) yX1_noRule cX1_noRule 2 (some .boolean) 0 0 (ad 0) [.int a] (c, t, v, S, K) (fun r u => r = nI 1 ∧ u = (c, t, v, S, K)) := by
  have q := mY_noRule l D ad cI c t v S K a
  rw [ha] at q
  exact q
set_option maxHeartbeats 4000000 in
theorem mY_noList (l : Launch) (D : va_G) (ad : Nat → Nat) (cI : ClassId) (c t : Nat) (v : Nat → Nat) (S K : Nat → Int32) (a : Int32) (hc : c ≤ 6) : Mi l D (tyY cI) (WY ad cI) yX1_noList cX1_noList 2 (some .boolean) 0 0 (ad 0) [.int a] (c, t, v, S, K) (fun z u => z = bz (ix c a) ∧ u = (c, t, v, S, K)) := by
  refine Mi.of (by decide) (Nat.le_of_ble_eq_true rfl) ?_
  intro p e s m args below meth cd A ls Q G hrt h hl hret
  have G : GY D A cI p s m args cd cX1_noList 2 := G
  have h : HY D A ad cI s.heap c t v S K s.heap [] := h
  have hl : lv_has ls 2 [(0, .ref (ad 0)), (1, .int a)] := hl
  have hx := G.1.1
  have hb := G.1.2.1
  refine lv_iload_n hx hb dX1_noList_0 rfl (lv_at hl 1 rfl) ?_
  refine lv_if_lt (tgt := 12) hx hb dX1_noList_1 (by decide) (fun c1 => ?_) (fun c1 => ?_)
  · skip
    refine lv_iconst (v := (nI 1)) hx hb dX1_noList_12 (by decide) ?_
    refine lv_goto (tgt := 17) hx hb dX1_noList_13 (by decide) ?_
    exact hret _ _ _ _ _ (c, t, v, S, K) _ h ⟨by rw [ix_neg c1]; rfl, rfl⟩ hrt rfl dX1_noList_17
  · skip
    refine lv_iload_n hx hb dX1_noList_4 rfl (lv_at hl 1 rfl) ?_
    refine lv_aload_n hx hb dX1_noList_5 rfl (lv_at hl 0 rfl) ?_
    refine y_getC G h dX1_noList_6 ?_
    refine lv_icmp_lt (tgt := 16) hx hb dX1_noList_9 (by decide) (fun c9 => ?_) (fun c9 => ?_)
    · skip
      refine lv_iconst (v := (nI 0)) hx hb dX1_noList_16 (by decide) ?_
      exact hret _ _ _ _ _ (c, t, v, S, K) _ h ⟨by obtain ⟨i, q⟩ := ix_mem (by omega) c1 c9; rw [q]; rfl, rfl⟩ hrt rfl dX1_noList_17
    · skip
      refine lv_iconst (v := (nI 1)) hx hb dX1_noList_12 (by decide) ?_
      refine lv_goto (tgt := 17) hx hb dX1_noList_13 (by decide) ?_
      exact hret _ _ _ _ _ (c, t, v, S, K) _ h ⟨by rw [ix_big (by omega) (fun q => c9 (q))]; rfl, rfl⟩ hrt rfl dX1_noList_17
theorem mY_noList0 (l : Launch) (D : va_G) (ad : Nat → Nat) (cI : ClassId) (c t : Nat) (v : Nat → Nat) (S K : Nat → Int32) (i : Nat) (hc : c ≤ 6) (hi : i < c) : Mi l D (tyY cI) (WY ad cI) yX1_noList cX1_noList 2 (some .boolean) 0 0 (ad 0) [.int (nI i)] (c, t, v, S, K) (fun r u => r = nI 0 ∧ u = (c, t, v, S, K)) := by
  have q := mY_noList l D ad cI c t v S K (nI i) hc
  rw [ix_nI (by omega) hi] at q
  exact q
theorem mY_noList1 (l : Launch) (D : va_G) (ad : Nat → Nat) (cI : ClassId) (c t : Nat) (v : Nat → Nat) (S K : Nat → Int32) (a : Int32) (hc : c ≤ 6) (ha : ix c a = none) : Mi l D (tyY cI) (WY ad cI) yX1_noList cX1_noList 2 (some .boolean) 0 0 (ad 0) [.int a] (c, t, v, S, K) (fun r u => r = nI 1 ∧ u = (c, t, v, S, K)) := by
  have q := mY_noList l D ad cI c t v S K a hc
  rw [ha] at q
  exact q
set_option maxHeartbeats 4000000 in
theorem mY_votes (l : Launch) (D : va_G) (ad : Nat → Nat) (cI : ClassId) (c t : Nat) (v : Nat → Nat) (S K : Nat → Int32) (hc : c ≤ 6) : Mi l D (tyY cI) (WY ad cI) yX1_votes cX1_votes 3 (some .int) 0 0 (ad 0) [] (c, t, v, S, K) (fun z u => z = nI (sumTo v c) ∧ u = (c, t, v, S, K)) := by
  refine Mi.of (by decide) (Nat.le_of_ble_eq_true rfl) ?_
  intro p e s m args below meth cd A ls Q G hrt h hl hret
  have G : GY D A cI p s m args cd cX1_votes 3 := G
  have h : HY D A ad cI s.heap c t v S K s.heap [] := h
  have hl : lv_has ls 3 [(0, .ref (ad 0))] := hl
  have hx := G.1.1
  have hb := G.1.2.1
  refine lv_iconst (v := (nI 0)) hx hb dX1_votes_0 (by decide) ?_
  refine lv_istore_n (lv' := [(1, .int (nI 0)), (0, .ref (ad 0))]) hx hb dX1_votes_1 rfl hl (by decide) rfl (fun ls hl => ?_)
  refine lv_iconst (v := (nI 0)) hx hb dX1_votes_2 (by decide) ?_
  refine lv_istore_n (lv' := [(2, .int (nI 0)), (1, .int (nI 0)), (0, .ref (ad 0))]) hx hb dX1_votes_3 rfl hl (by decide) rfl (fun ls hl => ?_)
  have L4 : ∀ (n4 : Nat) (i : Nat), c - i < n4 → (i ≤ c) → ∀ (H : Heap) (locs : List Loc), HY D A ad cI s.heap c t v S K H locs → ∀ (ls : Array Slot), lv_has ls 3 [(0, .ref (ad 0)), (1, .int (nI (sumTo v i))), (2, .int (nI i))] → W p l e (rmm 0 0) s m args below meth cd H locs 0 0 Q (F0 m 4 ls []) := by
    intro n4
    induction n4 with
    | zero =>
      intro i hm
      exact absurd hm (Nat.not_lt_zero _)
    | succ n4 ih4 =>
      intro i hm4 hi H locs h ls hl
      refine lv_iload_n hx hb dX1_votes_4 rfl (lv_at hl 2 rfl) ?_
      refine lv_aload_n hx hb dX1_votes_5 rfl (lv_at hl 0 rfl) ?_
      refine y_getC G h dX1_votes_6 ?_
      refine n_icmp_ge (tgt := 27) hx hb dX1_votes_9 (by decide) (by omega) (by omega) (fun c9 => ?_) (fun c9 => ?_)
      · skip
        refine lv_iload_n hx hb dX1_votes_27 rfl (lv_at hl 1 rfl) ?_
        exact hret _ _ _ _ _ (c, t, v, S, K) _ h ⟨by rw [show i = c by omega], rfl⟩ hrt rfl dX1_votes_28
      · skip
        refine lv_iload_n hx hb dX1_votes_12 rfl (lv_at hl 1 rfl) ?_
        refine lv_aload_n hx hb dX1_votes_13 rfl (lv_at hl 0 rfl) ?_
        refine y_getV G h dX1_votes_14 ?_
        refine lv_iload_n hx hb dX1_votes_17 rfl (lv_at hl 2 rfl) ?_
        refine y_ldV G h (by omega) dX1_votes_18 ?_
        refine n_iadd hx hb dX1_votes_19 ?_
        refine lv_istore_n (lv' := [(1, .int (nI ((sumTo v i) + (v i)))), (0, .ref (ad 0)), (2, .int (nI i))]) hx hb dX1_votes_20 rfl hl (by decide) rfl (fun ls hl => ?_)
        refine lv_iinc (v := nI (i + 1)) (lv' := [(2, .int (nI (i + 1))), (1, .int (nI ((sumTo v i) + (v i)))), (0, .ref (ad 0))]) hx hb dX1_votes_21 hl (k := 2) rfl (inc1 _) (by decide) rfl (fun ls hl => ?_)
        refine lv_goto (tgt := 4) hx hb dX1_votes_24 (by decide) ?_
        exact ih4 (i + 1) (by omega) (by omega) _ _ h _ (lv_sub hl [2, 1, 0] rfl)
  exact L4 _ 0 (Nat.lt_succ_self _) (by omega) _ _ h _ (lv_sub hl [2, 1, 0] rfl)
set_option maxHeartbeats 4000000 in
theorem mY_divisor (l : Launch) (D : va_G) (ad : Nat → Nat) (cI : ClassId) (c t : Nat) (v : Nat → Nat) (S K : Nat → Int32) (r k : Nat) (hr7 : r < 7) (hk : k ≤ 1000) : Ml l D (tyY cI) (WY ad cI) yX1_divisor cX1_divisor 3 (some .long) 0 0 (ad 0) [.int (nI r), .int (nI k)] (c, t, v, S, K) (fun z u => z = lN (dv r k) ∧ u = (c, t, v, S, K)) := by
  refine Ml.of (by decide) (Nat.le_of_ble_eq_true rfl) rfl ?_
  intro p e s m args below meth cd A ls Q G h hl hret
  have G : GY D A cI p s m args cd cX1_divisor 3 := G
  have h : HY D A ad cI s.heap c t v S K s.heap [] := h
  have hl : lv_has ls 3 [(0, .ref (ad 0)), (1, .int (nI r)), (2, .int (nI k))] := hl
  have hx := G.1.1
  have hb := G.1.2.1
  have b0 := Nat.mul_le_mul hk (show k + 1 ≤ 1001 by omega)
  refine lv_iload_n hx hb dX1_divisor_0 rfl (lv_at hl 1 rfl) ?_
  refine n_if_ne (tgt := 9) hx hb dX1_divisor_1 (by decide) (by omega) (fun c1 => ?_) (fun c1 => ?_)
  · skip
    refine lv_iload_n hx hb dX1_divisor_9 rfl (lv_at hl 1 rfl) ?_
    refine lv_iconst (v := (nI 1)) hx hb dX1_divisor_10 (by decide) ?_
    refine n_icmp_ne (tgt := 21) hx hb dX1_divisor_11 (by decide) (by omega) (by omega) (fun c11 => ?_) (fun c11 => ?_)
    · skip
      refine lv_iload_n hx hb dX1_divisor_21 rfl (lv_at hl 1 rfl) ?_
      refine lv_iconst (v := (nI 2)) hx hb dX1_divisor_22 (by decide) ?_
      refine n_icmp_ne (tgt := 44) hx hb dX1_divisor_23 (by decide) (by omega) (by omega) (fun c23 => ?_) (fun c23 => ?_)
      · skip
        refine lv_iload_n hx hb dX1_divisor_44 rfl (lv_at hl 1 rfl) ?_
        refine lv_iconst (v := (nI 3)) hx hb dX1_divisor_45 (by decide) ?_
        refine n_icmp_ne (tgt := 58) hx hb dX1_divisor_46 (by decide) (by omega) (by omega) (fun c46 => ?_) (fun c46 => ?_)
        · skip
          refine lv_iload_n hx hb dX1_divisor_58 rfl (lv_at hl 2 rfl) ?_
          refine n_i2l hx hb dX1_divisor_59 (by omega) ?_
          exact hret _ _ _ _ _ (c, t, v, S, K) h ⟨congrArg lN (by unfold dv; (repeat' split) <;> omega), rfl⟩ dX1_divisor_60
        · skip
          refine lv_iload_n hx hb dX1_divisor_49 rfl (lv_at hl 2 rfl) ?_
          refine lv_iload_n hx hb dX1_divisor_50 rfl (lv_at hl 2 rfl) ?_
          refine lv_iconst (v := (nI 1)) hx hb dX1_divisor_51 (by decide) ?_
          refine n_iadd hx hb dX1_divisor_52 ?_
          refine n_imul hx hb dX1_divisor_53 ?_
          refine n_i2l hx hb dX1_divisor_54 (by omega) ?_
          refine lv_goto (tgt := 60) hx hb dX1_divisor_55 (by decide) ?_
          exact hret _ _ _ _ _ (c, t, v, S, K) h ⟨congrArg lN (by unfold dv; (repeat' split) <;> omega), rfl⟩ dX1_divisor_60
      · skip
        refine lv_iload_n hx hb dX1_divisor_26 rfl (lv_at hl 2 rfl) ?_
        refine n_if_ne (tgt := 36) hx hb dX1_divisor_27 (by decide) (by omega) (fun c27 => ?_) (fun c27 => ?_)
        · skip
          refine lv_bipush (v := (nI 10)) hx hb dX1_divisor_36 (by decide) ?_
          refine lv_iload_n hx hb dX1_divisor_38 rfl (lv_at hl 2 rfl) ?_
          refine n_imul hx hb dX1_divisor_39 ?_
          refine lv_iconst (v := (nI 5)) hx hb dX1_divisor_40 (by decide) ?_
          refine n_iadd hx hb dX1_divisor_41 ?_
          refine n_i2l hx hb dX1_divisor_42 (by omega) ?_
          exact hret _ _ _ _ _ (c, t, v, S, K) h ⟨congrArg lN (by unfold dv; (repeat' split) <;> omega), rfl⟩ dX1_divisor_43
        · skip
          refine lv_ldc2 (v := lN 7) hx hb G.1.2.2.2.1 (G.1.2.2.2.2 _ q272) dX1_divisor_30 ?_
          refine lv_goto (tgt := 43) hx hb dX1_divisor_33 (by decide) ?_
          exact hret _ _ _ _ _ (c, t, v, S, K) h ⟨congrArg lN (by unfold dv; (repeat' split) <;> omega), rfl⟩ dX1_divisor_43
    · skip
      refine lv_iconst (v := (nI 2)) hx hb dX1_divisor_14 (by decide) ?_
      refine lv_iload_n hx hb dX1_divisor_15 rfl (lv_at hl 2 rfl) ?_
      refine n_imul hx hb dX1_divisor_16 ?_
      refine lv_iconst (v := (nI 1)) hx hb dX1_divisor_17 (by decide) ?_
      refine n_iadd hx hb dX1_divisor_18 ?_
      refine n_i2l hx hb dX1_divisor_19 (by omega) ?_
      exact hret _ _ _ _ _ (c, t, v, S, K) h ⟨congrArg lN (by unfold dv; (repeat' split) <;> omega), rfl⟩ dX1_divisor_20
  · skip
    refine lv_iload_n hx hb dX1_divisor_4 rfl (lv_at hl 2 rfl) ?_
    refine lv_iconst (v := (nI 1)) hx hb dX1_divisor_5 (by decide) ?_
    refine n_iadd hx hb dX1_divisor_6 ?_
    refine n_i2l hx hb dX1_divisor_7 (by omega) ?_
    exact hret _ _ _ _ _ (c, t, v, S, K) h ⟨congrArg lN (by unfold dv; (repeat' split) <;> omega), rfl⟩ dX1_divisor_8
set_option maxHeartbeats 4000000 in
theorem mY_worth (l : Launch) (D : va_G) (ad : Nat → Nat) (cI : ClassId) (c t : Nat) (v : Nat → Nat) (S K : Nat → Int32) (r i : Nat) (sf : Nat → Nat) (hr7 : r < 7) (hi : i < 6) (hv : v i ≤ 2999) (hS : S i = nI (sf i)) (hs : sf i ≤ 999) : Ml l D (tyY cI) (WY ad cI) yX1_worth cX1_worth 3 (some .long) 0 0 (ad 0) [.int (nI r), .int (nI i)] (c, t, v, S, K) (fun z u => z = lN (woM r v sf i) ∧ u = (c, t, v, S, K)) := by
  refine Ml.of (by decide) (Nat.le_of_ble_eq_true rfl) rfl ?_
  intro p e s m args below meth cd A ls Q G h hl hret
  have G : GY D A cI p s m args cd cX1_worth 3 := G
  have h : HY D A ad cI s.heap c t v S K s.heap [] := h
  have hl : lv_has ls 3 [(0, .ref (ad 0)), (1, .int (nI r)), (2, .int (nI i))] := hl
  have hx := G.1.1
  have hb := G.1.2.1
  refine lv_iload_n hx hb dX1_worth_0 rfl (lv_at hl 1 rfl) ?_
  refine lv_iconst (v := (nI 3)) hx hb dX1_worth_1 (by decide) ?_
  refine n_icmp_ne (tgt := 32) hx hb dX1_worth_2 (by decide) (by omega) (by omega) (fun c2 => ?_) (fun c2 => ?_)
  · skip
    refine lv_aload_n hx hb dX1_worth_32 rfl (lv_at hl 0 rfl) ?_
    refine y_getV G h dX1_worth_33 ?_
    refine lv_iload_n hx hb dX1_worth_36 rfl (lv_at hl 2 rfl) ?_
    refine y_ldV G h (by omega) dX1_worth_37 ?_
    refine n_i2l hx hb dX1_worth_38 (by omega) ?_
    exact hret _ _ _ _ _ (c, t, v, S, K) h ⟨congrArg lN (by unfold woM; split <;> first | rfl | omega), rfl⟩ dX1_worth_39
  · skip
    refine lv_aload_n hx hb dX1_worth_5 rfl (lv_at hl 0 rfl) ?_
    refine y_getS G h dX1_worth_6 ?_
    refine lv_iload_n hx hb dX1_worth_9 rfl (lv_at hl 2 rfl) ?_
    refine y_ldS (x := (nI (sf i))) G h (by omega) hS dX1_worth_10 ?_
    refine n_if_le (tgt := 32) hx hb dX1_worth_11 (by decide) (by omega) (fun c11 => ?_) (fun c11 => ?_)
    · skip
      refine lv_aload_n hx hb dX1_worth_32 rfl (lv_at hl 0 rfl) ?_
      refine y_getV G h dX1_worth_33 ?_
      refine lv_iload_n hx hb dX1_worth_36 rfl (lv_at hl 2 rfl) ?_
      refine y_ldV G h (by omega) dX1_worth_37 ?_
      refine n_i2l hx hb dX1_worth_38 (by omega) ?_
      exact hret _ _ _ _ _ (c, t, v, S, K) h ⟨congrArg lN (by unfold woM; split <;> first | rfl | omega), rfl⟩ dX1_worth_39
    · skip
      refine lv_aload_n hx hb dX1_worth_14 rfl (lv_at hl 0 rfl) ?_
      refine y_getV G h dX1_worth_15 ?_
      refine lv_iload_n hx hb dX1_worth_18 rfl (lv_at hl 2 rfl) ?_
      refine y_ldV G h (by omega) dX1_worth_19 ?_
      refine n_i2l hx hb dX1_worth_20 (by omega) ?_
      refine lv_aload_n hx hb dX1_worth_21 rfl (lv_at hl 0 rfl) ?_
      refine y_getV G h dX1_worth_22 ?_
      refine lv_iload_n hx hb dX1_worth_25 rfl (lv_at hl 2 rfl) ?_
      refine y_ldV G h (by omega) dX1_worth_26 ?_
      refine n_i2l hx hb dX1_worth_27 (by omega) ?_
      refine n_lmul hx hb dX1_worth_28 ?_
      refine lv_goto (tgt := 39) hx hb dX1_worth_29 (by decide) ?_
      exact hret _ _ _ _ _ (c, t, v, S, K) h ⟨congrArg lN (by unfold woM; split <;> first | rfl | omega), rfl⟩ dX1_worth_39
set_option maxHeartbeats 4000000 in
theorem mY_isGreater (l : Launch) (D : va_G) (ad : Nat → Nat) (cI : ClassId) (c t : Nat) (v : Nat → Nat) (S K : Nat → Int32) (r i j : Nat) (sf : Nat → Nat) (hr7 : r < 7) (hi : i < 6) (hj : j < 6) (hvi : v i ≤ 2999) (hvj : v j ≤ 2999) (hSi : S i = nI (sf i)) (hSj : S j = nI (sf j)) (hsi : sf i ≤ 999) (hsj : sf j ≤ 999) : Mi l D (tyY cI) (WY ad cI) yX1_isGreater cX1_isGreater 8 (some .boolean) 1 22 (ad 0) [.int (nI r), .int (nI i), .int (nI j)] (c, t, v, S, K) (fun z u => z = bI (gr r v sf i j) ∧ u = (c, t, v, S, K)) := by
  refine Mi.of (by decide) (Nat.le_of_ble_eq_true rfl) ?_
  intro p e s m args below meth cd A ls Q G hrt h hl hret
  have G : GY D A cI p s m args cd cX1_isGreater 8 := G
  have h : HY D A ad cI s.heap c t v S K s.heap [] := h
  have hl : lv_has ls 8 [(0, .ref (ad 0)), (1, .int (nI r)), (2, .int (nI i)), (3, .int (nI j))] := hl
  have hx := G.1.1
  have hb := G.1.2.1
  have b1 := dv_le (r := r) (show sf i ≤ 1000 by omega)
  have b2 := dv_le (r := r) (show sf j ≤ 1000 by omega)
  have b3 := woM_le (r := r) (s := sf) hvi
  have b4 := woM_le (r := r) (s := sf) hvj
  have b5 := Nat.mul_le_mul b3 b2
  have b6 := Nat.mul_le_mul b4 b1
  refine lv_aload_n hx hb dX1_isGreater_0 rfl (lv_at hl 0 rfl) ?_
  refine lv_iload_n hx hb dX1_isGreater_1 rfl (lv_at hl 1 rfl) ?_
  refine lv_aload_n hx hb dX1_isGreater_2 rfl (lv_at hl 0 rfl) ?_
  refine y_getS G h dX1_isGreater_3 ?_
  refine lv_iload_n hx hb dX1_isGreater_6 rfl (lv_at hl 2 rfl) ?_
  refine y_ldS (x := (nI (sf i))) G h (by omega) hSi dX1_isGreater_7 ?_
  refine y_callrl (x := (lN (dv r (sf i)))) G h (mY_divisor l D ad cI c t v S K r (sf i) (by omega) (by omega)) kY_divisor rfl ⟨Nat.le_of_ble_eq_true rfl, Nat.le_of_ble_eq_true rfl, Nat.le_refl _, Nat.le_refl _⟩ hl.1 rfl (Nat.le_of_ble_eq_true rfl) dX1_isGreater_8 (fun H locs h => ?_)
  refine lv_lstore (lv' := [(4, .long (lN (dv r (sf i)))), (0, .ref (ad 0)), (1, .int (nI r)), (2, .int (nI i)), (3, .int (nI j))]) hx hb dX1_isGreater_11 hl (by decide) rfl (fun ls hl => ?_)
  refine lv_aload_n hx hb dX1_isGreater_13 rfl (lv_at hl 1 rfl) ?_
  refine lv_iload_n hx hb dX1_isGreater_14 rfl (lv_at hl 2 rfl) ?_
  refine lv_aload_n hx hb dX1_isGreater_15 rfl (lv_at hl 1 rfl) ?_
  refine y_getS G h dX1_isGreater_16 ?_
  refine lv_iload_n hx hb dX1_isGreater_19 rfl (lv_at hl 4 rfl) ?_
  refine y_ldS (x := (nI (sf j))) G h (by omega) hSj dX1_isGreater_20 ?_
  refine y_callrl (x := (lN (dv r (sf j)))) G h (mY_divisor l D ad cI c t v S K r (sf j) (by omega) (by omega)) kY_divisor rfl ⟨Nat.le_of_ble_eq_true rfl, Nat.le_of_ble_eq_true rfl, Nat.le_refl _, Nat.le_refl _⟩ hl.1 rfl (Nat.le_of_ble_eq_true rfl) dX1_isGreater_21 (fun H locs h => ?_)
  refine lv_lstore (lv' := [(6, .long (lN (dv r (sf j)))), (4, .long (lN (dv r (sf i)))), (0, .ref (ad 0)), (1, .int (nI r)), (2, .int (nI i)), (3, .int (nI j))]) hx hb dX1_isGreater_24 hl (by decide) rfl (fun ls hl => ?_)
  refine lv_lload hx hb dX1_isGreater_26 (lv_at hl 1 rfl) ?_
  refine lv_lconst (v := lN 0) hx hb dX1_isGreater_28 (by decide) ?_
  refine n_lc_ne (tgt := 61) hx hb dX1_isGreater_29 dX1_isGreater_30 (by decide) (by omega) (by omega) (fun c29 => ?_) (fun c29 => ?_)
  · skip
    refine lv_aload_n hx hb dX1_isGreater_61 rfl (lv_at hl 2 rfl) ?_
    refine lv_iload_n hx hb dX1_isGreater_62 rfl (lv_at hl 3 rfl) ?_
    refine lv_iload_n hx hb dX1_isGreater_63 rfl (lv_at hl 4 rfl) ?_
    refine y_callrl (x := (lN (woM r v sf i))) G h (mY_worth l D ad cI c t v S K r i sf hr7 (by omega) hvi hSi hsi) kY_worth rfl ⟨Nat.le_of_ble_eq_true rfl, Nat.le_of_ble_eq_true rfl, Nat.le_refl _, Nat.le_refl _⟩ hl.1 rfl (Nat.le_of_ble_eq_true rfl) dX1_isGreater_64 (fun H locs h => ?_)
    refine lv_lload hx hb dX1_isGreater_67 (lv_at hl 0 rfl) ?_
    refine n_lmul hx hb dX1_isGreater_69 ?_
    refine lv_aload_n hx hb dX1_isGreater_70 rfl (lv_at hl 2 rfl) ?_
    refine lv_iload_n hx hb dX1_isGreater_71 rfl (lv_at hl 3 rfl) ?_
    refine lv_iload_n hx hb dX1_isGreater_72 rfl (lv_at hl 5 rfl) ?_
    refine y_callrl (x := (lN (woM r v sf j))) G h (mY_worth l D ad cI c t v S K r j sf hr7 (by omega) hvj hSj hsj) kY_worth rfl ⟨Nat.le_of_ble_eq_true rfl, Nat.le_of_ble_eq_true rfl, Nat.le_refl _, Nat.le_refl _⟩ hl.1 rfl (Nat.le_of_ble_eq_true rfl) dX1_isGreater_73 (fun H locs h => ?_)
    refine lv_lload hx hb dX1_isGreater_76 (lv_at hl 1 rfl) ?_
    refine n_lmul hx hb dX1_isGreater_78 ?_
    refine n_lc_le (tgt := 87) hx hb dX1_isGreater_79 dX1_isGreater_80 (by decide) (by omega) (by omega) (fun c79 => ?_) (fun c79 => ?_)
    · skip
      refine lv_iconst (v := (nI 0)) hx hb dX1_isGreater_87 (by decide) ?_
      exact hret _ _ _ _ _ (c, t, v, S, K) _ h ⟨(bI_f (by unfold gr; split <;> first | (exact decide_eq_false (by omega)) | (exfalso; omega))).symm, rfl⟩ hrt rfl dX1_isGreater_88
    · skip
      refine lv_iconst (v := (nI 1)) hx hb dX1_isGreater_83 (by decide) ?_
      refine lv_goto (tgt := 88) hx hb dX1_isGreater_84 (by decide) ?_
      exact hret _ _ _ _ _ (c, t, v, S, K) _ h ⟨(bI_t (by unfold gr; split <;> first | (exact decide_eq_true (by omega)) | (exfalso; omega))).symm, rfl⟩ hrt rfl dX1_isGreater_88
  · skip
    refine lv_lload hx hb dX1_isGreater_33 (lv_at hl 0 rfl) ?_
    refine lv_lconst (v := lN 0) hx hb dX1_isGreater_35 (by decide) ?_
    refine n_lc_ne (tgt := 61) hx hb dX1_isGreater_36 dX1_isGreater_37 (by decide) (by omega) (by omega) (fun c36 => ?_) (fun c36 => ?_)
    · skip
      refine lv_aload_n hx hb dX1_isGreater_61 rfl (lv_at hl 2 rfl) ?_
      refine lv_iload_n hx hb dX1_isGreater_62 rfl (lv_at hl 3 rfl) ?_
      refine lv_iload_n hx hb dX1_isGreater_63 rfl (lv_at hl 4 rfl) ?_
      refine y_callrl (x := (lN (woM r v sf i))) G h (mY_worth l D ad cI c t v S K r i sf hr7 (by omega) hvi hSi hsi) kY_worth rfl ⟨Nat.le_of_ble_eq_true rfl, Nat.le_of_ble_eq_true rfl, Nat.le_refl _, Nat.le_refl _⟩ hl.1 rfl (Nat.le_of_ble_eq_true rfl) dX1_isGreater_64 (fun H locs h => ?_)
      refine lv_lload hx hb dX1_isGreater_67 (lv_at hl 0 rfl) ?_
      refine n_lmul hx hb dX1_isGreater_69 ?_
      refine lv_aload_n hx hb dX1_isGreater_70 rfl (lv_at hl 2 rfl) ?_
      refine lv_iload_n hx hb dX1_isGreater_71 rfl (lv_at hl 3 rfl) ?_
      refine lv_iload_n hx hb dX1_isGreater_72 rfl (lv_at hl 5 rfl) ?_
      refine y_callrl (x := (lN (woM r v sf j))) G h (mY_worth l D ad cI c t v S K r j sf hr7 (by omega) hvj hSj hsj) kY_worth rfl ⟨Nat.le_of_ble_eq_true rfl, Nat.le_of_ble_eq_true rfl, Nat.le_refl _, Nat.le_refl _⟩ hl.1 rfl (Nat.le_of_ble_eq_true rfl) dX1_isGreater_73 (fun H locs h => ?_)
      refine lv_lload hx hb dX1_isGreater_76 (lv_at hl 1 rfl) ?_
      refine n_lmul hx hb dX1_isGreater_78 ?_
      refine n_lc_le (tgt := 87) hx hb dX1_isGreater_79 dX1_isGreater_80 (by decide) (by omega) (by omega) (fun c79 => ?_) (fun c79 => ?_)
      · skip
        refine lv_iconst (v := (nI 0)) hx hb dX1_isGreater_87 (by decide) ?_
        exact hret _ _ _ _ _ (c, t, v, S, K) _ h ⟨(bI_f (by unfold gr; split <;> first | (exact decide_eq_false (by omega)) | (exfalso; omega))).symm, rfl⟩ hrt rfl dX1_isGreater_88
      · skip
        refine lv_iconst (v := (nI 1)) hx hb dX1_isGreater_83 (by decide) ?_
        refine lv_goto (tgt := 88) hx hb dX1_isGreater_84 (by decide) ?_
        exact hret _ _ _ _ _ (c, t, v, S, K) _ h ⟨(bI_t (by unfold gr; split <;> first | (exact decide_eq_true (by omega)) | (exfalso; omega))).symm, rfl⟩ hrt rfl dX1_isGreater_88
    · skip
      refine lv_aload_n hx hb dX1_isGreater_40 rfl (lv_at hl 2 rfl) ?_
      refine y_getV G h dX1_isGreater_41 ?_
      refine lv_iload_n hx hb dX1_isGreater_44 rfl (lv_at hl 4 rfl) ?_
      refine y_ldV G h (by omega) dX1_isGreater_45 ?_
      refine lv_aload_n hx hb dX1_isGreater_46 rfl (lv_at hl 2 rfl) ?_
      refine y_getV G h dX1_isGreater_47 ?_
      refine lv_iload_n hx hb dX1_isGreater_50 rfl (lv_at hl 5 rfl) ?_
      refine y_ldV G h (by omega) dX1_isGreater_51 ?_
      refine n_icmp_le (tgt := 59) hx hb dX1_isGreater_52 (by decide) (by omega) (by omega) (fun c52 => ?_) (fun c52 => ?_)
      · skip
        refine lv_iconst (v := (nI 0)) hx hb dX1_isGreater_59 (by decide) ?_
        exact hret _ _ _ _ _ (c, t, v, S, K) _ h ⟨(bI_f (by unfold gr; split <;> first | (exact decide_eq_false (by omega)) | (exfalso; omega))).symm, rfl⟩ hrt rfl dX1_isGreater_60
      · skip
        refine lv_iconst (v := (nI 1)) hx hb dX1_isGreater_55 (by decide) ?_
        refine lv_goto (tgt := 60) hx hb dX1_isGreater_56 (by decide) ?_
        exact hret _ _ _ _ _ (c, t, v, S, K) _ h ⟨(bI_t (by unfold gr; split <;> first | (exact decide_eq_true (by omega)) | (exfalso; omega))).symm, rfl⟩ hrt rfl dX1_isGreater_60
set_option maxHeartbeats 4000000 in
theorem mY_giveByQuotients (l : Launch) (D : va_G) (ad : Nat → Nat) (cI : ClassId) (c t : Nat) (v : Nat → Nat) (S K : Nat → Int32) (r n : Nat) (hr7 : r < 7) (hc : c ≤ 6) (hv : ∀ j, j < c → v j ≤ 2999) (hn : n ≤ 31) (hpos : 0 < sumTo v c) (hS : ∀ j, j < c → S j = nI 0) : Mv l D (tyY cI) (WY ad cI) yX1_giveByQuotients cX1_giveByQuotients 6 none 2 49 (ad 0) [.int (nI r), .int (nI n)] (c, t, v, S, K) (fun u => ∃ S', u = (c, t, v, S', K) ∧ ∀ j, j < c → S' j = nI (upQ r v c n (fun _ => 0) j)) := by
  refine Mv.of (by decide) (Nat.le_of_ble_eq_true rfl) rfl ?_
  intro p e s m args below meth cd A ls Q G h hl hret
  have G : GY D A cI p s m args cd cX1_giveByQuotients 6 := G
  have h : HY D A ad cI s.heap c t v S K s.heap [] := h
  have hl : lv_has ls 6 [(0, .ref (ad 0)), (1, .int (nI r)), (2, .int (nI n))] := hl
  have hx := G.1.1
  have hb := G.1.2.1
  refine lv_iconst (v := (nI 0)) hx hb dX1_giveByQuotients_0 (by decide) ?_
  refine lv_istore_n (lv' := [(3, .int (nI 0)), (0, .ref (ad 0)), (1, .int (nI r)), (2, .int (nI n))]) hx hb dX1_giveByQuotients_1 rfl hl (by decide) rfl (fun ls hl => ?_)
  have L2 : ∀ (n2 : Nat) (k : Nat) (s1 : Nat → Nat) (F : Nat → Int32), n - k < n2 → (k ≤ n) → (∀ j, j < c → F j = nI (s1 j)) → (sumTo s1 c = k) → (upQ r v c (n - k) s1 = upQ r v c n (fun _ => 0)) → ∀ (H : Heap) (locs : List Loc), HY D A ad cI s.heap c t v F K H locs → ∀ (ls : Array Slot), lv_has ls 6 [(0, .ref (ad 0)), (1, .int (nI r)), (2, .int (nI n)), (3, .int (nI k))] → W p l e (rmm 2 49) s m args below meth cd H locs 0 0 Q (F0 m 2 ls []) := by
    intro n2
    induction n2 with
    | zero =>
      intro k s1 F hm
      exact absurd hm (Nat.not_lt_zero _)
    | succ n2 ih2 =>
      intro k s1 F hm2 hk hF hsm hup H locs h ls hl
      have hs : ∀ j, j < c → s1 j ≤ 999 := fun j hj => by have := sumTo_at (v := s1) hj; omega
      refine lv_iload_n hx hb dX1_giveByQuotients_2 rfl (lv_at hl 3 rfl) ?_
      refine lv_iload_n hx hb dX1_giveByQuotients_3 rfl (lv_at hl 2 rfl) ?_
      refine n_icmp_ge (tgt := 81) hx hb dX1_giveByQuotients_4 (by decide) (by omega) (by omega) (fun c4 => ?_) (fun c4 => ?_)
      · skip
        exact hret _ _ _ _ (c, t, v, F, K) h ⟨_, rfl, fun j hj => by rw [hF j hj, ← hup, show n - k = 0 by omega]; rfl⟩ dX1_giveByQuotients_81
      · skip
        refine lv_iconst (v := (oI none)) hx hb dX1_giveByQuotients_7 (by decide) ?_
        refine lv_istore (lv' := [(4, .int (oI none)), (0, .ref (ad 0)), (1, .int (nI r)), (2, .int (nI n)), (3, .int (nI k))]) hx hb dX1_giveByQuotients_8 hl (by decide) rfl (fun ls hl => ?_)
        refine lv_iconst (v := (nI 0)) hx hb dX1_giveByQuotients_10 (by decide) ?_
        refine lv_istore (lv' := [(5, .int (nI 0)), (4, .int (oI none)), (0, .ref (ad 0)), (1, .int (nI r)), (2, .int (nI n)), (3, .int (nI k))]) hx hb dX1_giveByQuotients_11 hl (by decide) rfl (fun ls hl => ?_)
        have L13 : ∀ (n13 : Nat) (i : Nat) (b : Option Nat), c - i < n13 → (i ≤ c) → (b = fnS r v s1 i) → ∀ (H : Heap) (locs : List Loc), HY D A ad cI s.heap c t v F K H locs → ∀ (ls : Array Slot), lv_has ls 6 [(0, .ref (ad 0)), (1, .int (nI r)), (2, .int (nI n)), (3, .int (nI k)), (4, .int (oI b)), (5, .int (nI i))] → W p l e (rmm 2 49) s m args below meth cd H locs 0 0 Q (F0 m 13 ls []) := by
          intro n13
          induction n13 with
          | zero =>
            intro i b hm
            exact absurd hm (Nat.not_lt_zero _)
          | succ n13 ih13 =>
            intro i b hm13 hi hbo H locs h ls hl
            refine lv_iload hx hb dX1_giveByQuotients_13 (lv_at hl 5 rfl) ?_
            refine lv_aload_n hx hb dX1_giveByQuotients_15 rfl (lv_at hl 0 rfl) ?_
            refine y_getC G h dX1_giveByQuotients_16 ?_
            refine n_icmp_ge (tgt := 59) hx hb dX1_giveByQuotients_19 (by decide) (by omega) (by omega) (fun c19 => ?_) (fun c19 => ?_)
            · skip
              refine lv_iload hx hb dX1_giveByQuotients_59 (lv_at hl 4 rfl) ?_
              refine o_if_lt (tgt := 75) hx hb dX1_giveByQuotients_61 (by decide) (fun j hj => by have := fnS_lt (hbo.symm.trans hj); omega) (fun c61 => (by obtain ⟨w0, q1, -⟩ := fnS_some (r := r) (v := v) (s := s1) (c := c) hpos; rw [hbo, show i = c by omega, q1] at c61; cases c61)) (fun j61 c61 => ?_)
              subst c61
              have hl : lv_has ls 6 [(0, .ref (ad 0)), (1, .int (nI r)), (2, .int (nI n)), (3, .int (nI k)), (4, .int (nI j61)), (5, .int (nI i))] := hl
              have hq61 : fnS r v s1 c = some j61 := by rw [← show i = c by omega]; exact hbo.symm
              have hj61 := fnS_lt hq61
              refine lv_aload_n hx hb dX1_giveByQuotients_64 rfl (lv_at hl 0 rfl) ?_
              refine y_getS G h dX1_giveByQuotients_65 ?_
              refine lv_iload hx hb dX1_giveByQuotients_68 (lv_at hl 4 rfl) ?_
              refine lv_dup2_11 hx hb dX1_giveByQuotients_70 rfl rfl ?_
              refine y_ldS (x := (nI (s1 j61))) G h (by omega) (hF _ hj61.1) dX1_giveByQuotients_71 ?_
              refine lv_iconst (v := (nI 1)) hx hb dX1_giveByQuotients_72 (by decide) ?_
              refine n_iadd hx hb dX1_giveByQuotients_73 ?_
              refine y_stS (S' := upd F j61 (nI ((s1 j61) + 1))) G h (by omega) rfl dX1_giveByQuotients_74 (fun H locs h => ?_)
              refine lv_iinc (v := nI (k + 1)) (lv' := [(3, .int (nI (k + 1))), (0, .ref (ad 0)), (1, .int (nI r)), (2, .int (nI n)), (4, .int (nI j61)), (5, .int (nI i))]) hx hb dX1_giveByQuotients_75 hl (k := 3) rfl (inc1 _) (by decide) rfl (fun ls hl => ?_)
              refine lv_goto (tgt := 2) hx hb dX1_giveByQuotients_78 (by decide) ?_
              exact ih2 (k + 1) (va_up s1 j61 (s1 j61 + 1)) (upd F j61 (nI ((s1 j61) + 1))) (by omega) (by omega) (rel_up hF) (by have := sumTo_up (v := s1) (x := s1 j61 + 1) hj61.1; omega) (by rw [← hup, show n - k = (n - (k + 1)) + 1 by omega]; simp only [upQ, hq61]) _ _ h _ (lv_sub hl [1, 2, 3, 0] rfl)
            · skip
              refine lv_aload_n hx hb dX1_giveByQuotients_22 rfl (lv_at hl 0 rfl) ?_
              refine y_getV G h dX1_giveByQuotients_23 ?_
              refine lv_iload hx hb dX1_giveByQuotients_26 (lv_at hl 5 rfl) ?_
              refine y_ldV G h (by omega) dX1_giveByQuotients_28 ?_
              refine n_if_le (tgt := 53) hx hb dX1_giveByQuotients_29 (by decide) (by have := hv _ (show i < c by omega); omega) (fun c29 => ?_) (fun c29 => ?_)
              · skip
                refine lv_iinc (v := nI (i + 1)) (lv' := [(5, .int (nI (i + 1))), (0, .ref (ad 0)), (1, .int (nI r)), (2, .int (nI n)), (3, .int (nI k)), (4, .int (oI b))]) hx hb dX1_giveByQuotients_53 hl (k := 5) rfl (inc1 _) (by decide) rfl (fun ls hl => ?_)
                refine lv_goto (tgt := 13) hx hb dX1_giveByQuotients_56 (by decide) ?_
                exact ih13 (i + 1) b (by omega) (by omega) (by rw [fnS_s, ← hbo, fnx_0 c29]) _ _ h _ (lv_sub hl [1, 2, 3, 4, 5, 0] rfl)
              · skip
                refine lv_iload hx hb dX1_giveByQuotients_32 (lv_at hl 4 rfl) ?_
                refine o_if_lt (tgt := 49) hx hb dX1_giveByQuotients_34 (by decide) (fun j hj => by have := fnS_lt (hbo.symm.trans hj); omega) (fun c34 => ?_) (fun j34 c34 => ?_)
                · skip
                  subst c34
                  have hl : lv_has ls 6 [(0, .ref (ad 0)), (1, .int (nI r)), (2, .int (nI n)), (3, .int (nI k)), (4, .int (oI none)), (5, .int (nI i))] := hl
                  refine lv_iload hx hb dX1_giveByQuotients_49 (lv_at hl 5 rfl) ?_
                  refine lv_istore (lv' := [(4, .int (nI i)), (0, .ref (ad 0)), (1, .int (nI r)), (2, .int (nI n)), (3, .int (nI k)), (5, .int (nI i))]) hx hb dX1_giveByQuotients_51 hl (by decide) rfl (fun ls hl => ?_)
                  refine lv_iinc (v := nI (i + 1)) (lv' := [(5, .int (nI (i + 1))), (4, .int (nI i)), (0, .ref (ad 0)), (1, .int (nI r)), (2, .int (nI n)), (3, .int (nI k))]) hx hb dX1_giveByQuotients_53 hl (k := 5) rfl (inc1 _) (by decide) rfl (fun ls hl => ?_)
                  refine lv_goto (tgt := 13) hx hb dX1_giveByQuotients_56 (by decide) ?_
                  exact ih13 (i + 1) (some i) (by omega) (by omega) (by rw [fnS_s, ← hbo]; simp [fnx, c29]) _ _ h _ (lv_sub hl [2, 3, 4, 5, 1, 0] rfl)
                · skip
                  subst c34
                  have hl : lv_has ls 6 [(0, .ref (ad 0)), (1, .int (nI r)), (2, .int (nI n)), (3, .int (nI k)), (4, .int (nI j34)), (5, .int (nI i))] := hl
                  have hj34 := fnS_lt hbo.symm
                  refine lv_aload_n hx hb dX1_giveByQuotients_37 rfl (lv_at hl 0 rfl) ?_
                  refine lv_iload_n hx hb dX1_giveByQuotients_38 rfl (lv_at hl 1 rfl) ?_
                  refine lv_iload hx hb dX1_giveByQuotients_39 (lv_at hl 5 rfl) ?_
                  refine lv_iload hx hb dX1_giveByQuotients_41 (lv_at hl 4 rfl) ?_
                  refine y_callr (x := (bI (gr r v s1 i j34))) G h (mY_isGreater l D ad cI c t v F K r i j34 s1 hr7 (by omega) (by omega) (hv _ (by omega)) (hv _ (by omega)) (hF _ (by omega)) (hF _ (by omega)) (hs _ (by omega)) (hs _ (by omega))) kY_isGreater rfl ⟨Nat.le_of_ble_eq_true rfl, Nat.le_of_ble_eq_true rfl, Nat.le_refl _, Nat.le_refl _⟩ hl.1 rfl (Nat.le_of_ble_eq_true rfl) dX1_giveByQuotients_43 (fun H locs h => ?_)
                  refine n_toe (congrArg bI (gr_bef (by omega) c29 hj34.2)) ?_
                  refine b_if_eq (tgt := 53) hx hb dX1_giveByQuotients_46 (by decide) (fun c46 => ?_) (fun c46 => ?_)
                  · skip
                    refine lv_iinc (v := nI (i + 1)) (lv' := [(5, .int (nI (i + 1))), (0, .ref (ad 0)), (1, .int (nI r)), (2, .int (nI n)), (3, .int (nI k)), (4, .int (nI j34))]) hx hb dX1_giveByQuotients_53 hl (k := 5) rfl (inc1 _) (by decide) rfl (fun ls hl => ?_)
                    refine lv_goto (tgt := 13) hx hb dX1_giveByQuotients_56 (by decide) ?_
                    exact ih13 (i + 1) (some j34) (by omega) (by omega) (by rw [fnS_s, ← hbo]; simp [fnx, c46]) _ _ h _ (lv_sub hl [1, 2, 3, 4, 5, 0] rfl)
                  · skip
                    refine lv_iload hx hb dX1_giveByQuotients_49 (lv_at hl 5 rfl) ?_
                    refine lv_istore (lv' := [(4, .int (nI i)), (0, .ref (ad 0)), (1, .int (nI r)), (2, .int (nI n)), (3, .int (nI k)), (5, .int (nI i))]) hx hb dX1_giveByQuotients_51 hl (by decide) rfl (fun ls hl => ?_)
                    refine lv_iinc (v := nI (i + 1)) (lv' := [(5, .int (nI (i + 1))), (4, .int (nI i)), (0, .ref (ad 0)), (1, .int (nI r)), (2, .int (nI n)), (3, .int (nI k))]) hx hb dX1_giveByQuotients_53 hl (k := 5) rfl (inc1 _) (by decide) rfl (fun ls hl => ?_)
                    refine lv_goto (tgt := 13) hx hb dX1_giveByQuotients_56 (by decide) ?_
                    exact ih13 (i + 1) (some i) (by omega) (by omega) (by rw [fnS_s, ← hbo]; simp [fnx, c29, c46]) _ _ h _ (lv_sub hl [2, 3, 4, 5, 1, 0] rfl)
        exact L13 _ 0 none (Nat.lt_succ_self _) (Nat.zero_le _) rfl _ _ h _ (lv_sub hl [2, 3, 4, 5, 1, 0] rfl)
  exact L2 _ 0 (fun _ => 0) S (Nat.lt_succ_self _) (Nat.zero_le _) hS (sum_0) rfl _ _ h _ (lv_sub hl [1, 2, 3, 0] rfl)
end
section
set_option maxRecDepth 100000
set_option maxHeartbeats 4000000 in
theorem mY_giveByRests (l : Launch) (D : va_G) (ad : Nat → Nat) (cI : ClassId) (c t : Nat) (v : Nat → Nat) (S K : Nat → Int32) (r n : Nat) (hr7 : r < 7) (hc : c ≤ 6) (hv : ∀ j, j < c → v j ≤ 2999) (hn : n ≤ 31) (hpos : 0 < sumTo v c) : Mv l D (tyY cI) (WY ad cI) yX1_giveByRests cX1_giveByRests 11 none 1 22 (ad 0) [.int (nI r), .int (nI n)] (c, t, v, S, K) (fun u => ∃ S', u = (c, t, v, S', K) ∧ ∀ j, j < c → S' j = nI (shR r v c n (sumTo v c) j)) := by
  refine Mv.of (by decide) (Nat.le_of_ble_eq_true rfl) rfl ?_
  intro p e s m args below meth cd A ls Q G h hl hret
  have G : GY D A cI p s m args cd cX1_giveByRests 11 := G
  have h : HY D A ad cI s.heap c t v S K s.heap [] := h
  have hl : lv_has ls 11 [(0, .ref (ad 0)), (1, .int (nI r)), (2, .int (nI n))] := hl
  have hx := G.1.1
  have hb := G.1.2.1
  have hal : sumTo v c ≤ 17994 := by have := sumTo_le hv; have h2 : c * 2999 ≤ 6 * 2999 := Nat.mul_le_mul_right _ hc; omega
  have hq := qtx_pos (r := r) (n := n) hpos
  have hqb := qtx_le (r := r) (n := n) (all := sumTo v c)
  have hby := byx_le (r := r) hn
  have htot := ba_tot (r := r) (n := n) (v := v) (c := c) rfl hpos
  have hrmb : ∀ j, rmR r v n (sumTo v c) j < 2 ^ 31 := fun j => Nat.lt_trans (Nat.mod_lt _ hq) (by omega)
  have hord := Ord.all (v := v) (rm := rmR r v n (sumTo v c)) (i := c)
  have hab := cntP_pos hpos
  have habc := cntP_le (v := v) (i := c)
  have J36 :  ∀ (H : Heap) (locs : List Loc), HY D A ad cI s.heap c t v S K H locs → ∀ (ls : Array Slot), lv_has ls 11 [(0, .ref (ad 0)), (1, .int (nI r)), (2, .int (nI n)), (3, .int (nI (sumTo v c))), (4, .int (nI n)), (5, .int (nI (qtx r n (sumTo v c))))] → W p l e (rmm 1 22) s m args below meth cd H locs 0 0 Q (F0 m 36 ls [.int (nI (byx r n))]) := by
    intro   H locs h ls hl
    refine lv_istore (lv' := [(6, .int (nI (byx r n))), (0, .ref (ad 0)), (1, .int (nI r)), (2, .int (nI n)), (3, .int (nI (sumTo v c))), (4, .int (nI n)), (5, .int (nI (qtx r n (sumTo v c))))]) hx hb dX1_giveByRests_36 hl (by decide) rfl (fun ls hl => ?_)
    refine lv_iconst (v := (nI 0)) hx hb dX1_giveByRests_38 (by decide) ?_
    refine lv_istore (lv' := [(7, .int (nI 0)), (6, .int (nI (byx r n))), (0, .ref (ad 0)), (1, .int (nI r)), (2, .int (nI n)), (3, .int (nI (sumTo v c))), (4, .int (nI n)), (5, .int (nI (qtx r n (sumTo v c))))]) hx hb dX1_giveByRests_39 hl (by decide) rfl (fun ls hl => ?_)
    have h := y_cS (ov_0 (s := baR r v n (sumTo v c))).symm h
    have L41 : ∀ (n41 : Nat) (i : Nat), c - i < n41 → (i ≤ c) → ∀ (H : Heap) (locs : List Loc), HY D A ad cI s.heap c t v (ov i (baR r v n (sumTo v c)) S) K H locs → ∀ (ls : Array Slot), lv_has ls 11 [(0, .ref (ad 0)), (1, .int (nI r)), (2, .int (nI n)), (3, .int (nI (sumTo v c))), (5, .int (nI (qtx r n (sumTo v c)))), (6, .int (nI (byx r n))), (4, .int (nI (n - sumTo (baR r v n (sumTo v c)) i))), (7, .int (nI i))] → W p l e (rmm 1 22) s m args below meth cd H locs 0 0 Q (F0 m 41 ls []) := by
      intro n41
      induction n41 with
      | zero =>
        intro i hm
        exact absurd hm (Nat.not_lt_zero _)
      | succ n41 ih41 =>
        intro i hm41 hi H locs h ls hl
        refine lv_iload hx hb dX1_giveByRests_41 (lv_at hl 7 rfl) ?_
        refine lv_aload_n hx hb dX1_giveByRests_43 rfl (lv_at hl 0 rfl) ?_
        refine y_getC G h dX1_giveByRests_44 ?_
        refine n_icmp_ge (tgt := 88) hx hb dX1_giveByRests_47 (by decide) (by omega) (by omega) (fun c47 => ?_) (fun c47 => ?_)
        · skip
          refine lv_iconst (v := (nI 0)) hx hb dX1_giveByRests_88 (by decide) ?_
          refine lv_istore (lv' := [(7, .int (nI 0)), (0, .ref (ad 0)), (1, .int (nI r)), (2, .int (nI n)), (3, .int (nI (sumTo v c))), (5, .int (nI (qtx r n (sumTo v c)))), (6, .int (nI (byx r n))), (4, .int (nI (n - sumTo (baR r v n (sumTo v c)) i)))]) hx hb dX1_giveByRests_89 hl (by decide) rfl (fun ls hl => ?_)
          have hic : i = c := by omega
          have h := y_cS (show ov i (baR r v n (sumTo v c)) S = ov c (baR r v n (sumTo v c)) S by rw [hic]) h
          have hl : lv_has ls 11 [(7, .int (nI 0)), (0, .ref (ad 0)), (1, .int (nI r)), (2, .int (nI n)), (3, .int (nI (sumTo v c))), (5, .int (nI (qtx r n (sumTo v c)))), (6, .int (nI (byx r n))), (4, .int (nI (n - sumTo (baR r v n (sumTo v c)) c)))] := by rw [← hic]; rw [← hic] at hl; exact hl
          have L91 : ∀ (n91 : Nat) (lf : Nat) (dm : Nat) (kk : Nat) (sx : Nat → Nat), (2 * lf + (if kk < cntP v c then 0 else 1)) < n91 → (lf ≤ n) → (kk ≤ cntP v c) → (Dn (orS v (rmR r v n (sumTo v c)) c) kk dm) → (dsR (orS v (rmR r v n (sumTo v c)) c) (cntP v c) lf (if kk < (cntP v c) then kk else 0) sx = shR r v c n (sumTo v c)) → ∀ (H : Heap) (locs : List Loc), HY D A ad cI s.heap c t v (ov c sx S) K H locs → ∀ (ls : Array Slot), lv_has ls 11 [(0, .ref (ad 0)), (1, .int (nI r)), (2, .int (nI n)), (3, .int (nI (sumTo v c))), (5, .int (nI (qtx r n (sumTo v c)))), (6, .int (nI (byx r n))), (4, .int (nI lf)), (7, .int (nI dm))] → W p l e (rmm 1 22) s m args below meth cd H locs 0 0 Q (F0 m 91 ls []) := by
            intro n91
            induction n91 with
            | zero =>
              intro lf dm kk sx hm
              exact absurd hm (Nat.not_lt_zero _)
            | succ n91 ih91 =>
              intro lf dm kk sx hm91 hlf hkk hdn hds H locs h ls hl
              refine lv_iload hx hb dX1_giveByRests_91 (lv_at hl 6 rfl) ?_
              refine n_if_le (tgt := 224) hx hb dX1_giveByRests_93 (by decide) (by omega) (fun c93 => ?_) (fun c93 => ?_)
              · skip
                exact hret _ _ _ _ (c, t, v, ov c sx S, K) h ⟨_, rfl, fun j hj => by rw [ov_lt hj, ← hds, c93]; rfl⟩ dX1_giveByRests_224
              · skip
                refine lv_iconst (v := (oI none)) hx hb dX1_giveByRests_96 (by decide) ?_
                refine lv_istore (lv' := [(8, .int (oI none)), (0, .ref (ad 0)), (1, .int (nI r)), (2, .int (nI n)), (3, .int (nI (sumTo v c))), (5, .int (nI (qtx r n (sumTo v c)))), (6, .int (nI (byx r n))), (4, .int (nI lf)), (7, .int (nI dm))]) hx hb dX1_giveByRests_97 hl (by decide) rfl (fun ls hl => ?_)
                refine lv_iconst (v := (nI 0)) hx hb dX1_giveByRests_99 (by decide) ?_
                refine lv_istore (lv' := [(9, .int (nI 0)), (8, .int (oI none)), (0, .ref (ad 0)), (1, .int (nI r)), (2, .int (nI n)), (3, .int (nI (sumTo v c))), (5, .int (nI (qtx r n (sumTo v c)))), (6, .int (nI (byx r n))), (4, .int (nI lf)), (7, .int (nI dm))]) hx hb dX1_giveByRests_100 hl (by decide) rfl (fun ls hl => ?_)
                have L102 : ∀ (n102 : Nat) (i2 : Nat) (b : Option Nat), c - i2 < n102 → (i2 ≤ c) → (b = bsS v (rmR r v n (sumTo v c)) dm i2) → ∀ (H : Heap) (locs : List Loc), HY D A ad cI s.heap c t v (ov c sx S) K H locs → ∀ (ls : Array Slot), lv_has ls 11 [(0, .ref (ad 0)), (1, .int (nI r)), (2, .int (nI n)), (3, .int (nI (sumTo v c))), (5, .int (nI (qtx r n (sumTo v c)))), (6, .int (nI (byx r n))), (4, .int (nI lf)), (7, .int (nI dm)), (8, .int (oI b)), (9, .int (nI i2))] → W p l e (rmm 1 22) s m args below meth cd H locs 0 0 Q (F0 m 102 ls []) := by
                  intro n102
                  induction n102 with
                  | zero =>
                    intro i2 b hm
                    exact absurd hm (Nat.not_lt_zero _)
                  | succ n102 ih102 =>
                    intro i2 b hm102 hi2 hbo H locs h ls hl
                    refine lv_iload hx hb dX1_giveByRests_102 (lv_at hl 9 rfl) ?_
                    refine lv_aload_n hx hb dX1_giveByRests_104 rfl (lv_at hl 0 rfl) ?_
                    refine y_getC G h dX1_giveByRests_105 ?_
                    refine n_icmp_ge (tgt := 187) hx hb dX1_giveByRests_108 (by decide) (by omega) (by omega) (fun c108 => ?_) (fun c108 => ?_)
                    · skip
                      refine lv_iload hx hb dX1_giveByRests_187 (lv_at hl 8 rfl) ?_
                      refine o_if_ge (tgt := 198) hx hb dX1_giveByRests_189 (by decide) (fun j hj => by have := (bsS_some (hbo.symm.trans hj)).1; omega) (fun j189 c189 => ?_) (fun c189 => ?_)
                      · skip
                        subst c189
                        have hl : lv_has ls 11 [(0, .ref (ad 0)), (1, .int (nI r)), (2, .int (nI n)), (3, .int (nI (sumTo v c))), (5, .int (nI (qtx r n (sumTo v c)))), (6, .int (nI (byx r n))), (4, .int (nI lf)), (7, .int (nI dm)), (8, .int (nI j189)), (9, .int (nI i2))] := hl
                        have hbo2 := hbo
                        rw [show i2 = c by omega] at hbo2
                        have hkl : kk < cntP v c := Nat.not_le.mp (fun z => by have q9 : kk = cntP v c := Nat.le_antisymm hkk z; rw [q9] at hdn; have q10 := hbo2.trans (bsS_end hord hc hdn); cases q10)
                        have hj189 : j189 = (orS v (rmR r v n (sumTo v c)) c) kk := Option.some.inj (hbo2.trans (bsS_pick hord hc hdn hkl))
                        have hjc : j189 < c := by rw [hj189]; exact (hord.1 kk hkl).1
                        have hkc := hord.1 kk hkl
                        refine lv_iload hx hb dX1_giveByRests_198 (lv_at hl 7 rfl) ?_
                        refine lv_iconst (v := (nI 1)) hx hb dX1_giveByRests_200 (by decide) ?_
                        refine lv_iload hx hb dX1_giveByRests_201 (lv_at hl 8 rfl) ?_
                        refine lv_ishl hx hb dX1_giveByRests_203 ?_
                        refine lv_ior hx hb dX1_giveByRests_204 ?_
                        refine n_toe (mask_or dm hdn.1 j189 (by omega)) ?_
                        refine lv_istore (lv' := [(7, .int (nI (dm ||| 2 ^ j189))), (0, .ref (ad 0)), (1, .int (nI r)), (2, .int (nI n)), (3, .int (nI (sumTo v c))), (5, .int (nI (qtx r n (sumTo v c)))), (6, .int (nI (byx r n))), (4, .int (nI lf)), (8, .int (nI j189)), (9, .int (nI i2))]) hx hb dX1_giveByRests_205 hl (by decide) rfl (fun ls hl => ?_)
                        refine lv_aload_n hx hb dX1_giveByRests_207 rfl (lv_at hl 1 rfl) ?_
                        refine y_getS G h dX1_giveByRests_208 ?_
                        refine lv_iload hx hb dX1_giveByRests_211 (lv_at hl 8 rfl) ?_
                        refine lv_dup2_11 hx hb dX1_giveByRests_213 rfl rfl ?_
                        refine y_ldS (x := (nI (sx j189))) G h (by omega) (ov_lt hjc) dX1_giveByRests_214 ?_
                        refine lv_iconst (v := (nI 1)) hx hb dX1_giveByRests_215 (by decide) ?_
                        refine n_iadd hx hb dX1_giveByRests_216 ?_
                        refine y_stS (S' := ov c (va_up sx j189 (sx j189 + 1)) S) G h (by omega) (ov_upd hjc) dX1_giveByRests_217 (fun H locs h => ?_)
                        refine lv_iinc (v := nI (lf - 1)) (lv' := [(4, .int (nI (lf - 1))), (7, .int (nI (dm ||| 2 ^ j189))), (0, .ref (ad 0)), (1, .int (nI r)), (2, .int (nI n)), (3, .int (nI (sumTo v c))), (5, .int (nI (qtx r n (sumTo v c)))), (6, .int (nI (byx r n))), (8, .int (nI j189)), (9, .int (nI i2))]) hx hb dX1_giveByRests_218 hl (k := 7) rfl (dec1 (by omega)) (by decide) rfl (fun ls hl => ?_)
                        refine lv_goto (tgt := 91) hx hb dX1_giveByRests_221 (by decide) ?_
                        exact ih91 (lf - 1) (dm ||| 2 ^ j189) (kk + 1) (va_up sx j189 (sx j189 + 1)) (by have hmm := hm91; split at hmm <;> split <;> omega) (by omega) (by omega) (by rw [hj189]; exact hdn.add (by omega)) (by rw [← hds, dsR_go c93, if_pos hkl, ← hj189]) _ _ h _ (lv_sub hl [2, 3, 4, 5, 6, 7, 0, 1] rfl)
                      · skip
                        subst c189
                        have hl : lv_has ls 11 [(0, .ref (ad 0)), (1, .int (nI r)), (2, .int (nI n)), (3, .int (nI (sumTo v c))), (5, .int (nI (qtx r n (sumTo v c)))), (6, .int (nI (byx r n))), (4, .int (nI lf)), (7, .int (nI dm)), (8, .int (oI none)), (9, .int (nI i2))] := hl
                        have hbo2 := hbo
                        rw [show i2 = c by omega] at hbo2
                        have hkk2 : kk = cntP v c := Nat.le_antisymm hkk (Nat.not_lt.mp (fun z => by have q9 := hbo2.trans (bsS_pick hord hc hdn z); cases q9))
                        refine lv_iconst (v := (nI 0)) hx hb dX1_giveByRests_192 (by decide) ?_
                        refine lv_istore (lv' := [(7, .int (nI 0)), (0, .ref (ad 0)), (1, .int (nI r)), (2, .int (nI n)), (3, .int (nI (sumTo v c))), (5, .int (nI (qtx r n (sumTo v c)))), (6, .int (nI (byx r n))), (4, .int (nI lf)), (8, .int (oI none)), (9, .int (nI i2))]) hx hb dX1_giveByRests_193 hl (by decide) rfl (fun ls hl => ?_)
                        refine lv_goto (tgt := 221) hx hb dX1_giveByRests_195 (by decide) ?_
                        refine lv_goto (tgt := 91) hx hb dX1_giveByRests_221 (by decide) ?_
                        exact ih91 lf 0 0 sx (by have hmm := hm91; split at hmm <;> split <;> omega) hlf (Nat.zero_le _) Dn.zero (by rw [← hds, if_pos hab, if_neg (by omega)]) _ _ h _ (lv_sub hl [1, 2, 3, 4, 5, 6, 7, 0] rfl)
                    · skip
                      refine lv_aload_n hx hb dX1_giveByRests_111 rfl (lv_at hl 0 rfl) ?_
                      refine y_getV G h dX1_giveByRests_112 ?_
                      refine lv_iload hx hb dX1_giveByRests_115 (lv_at hl 9 rfl) ?_
                      refine y_ldV G h (by omega) dX1_giveByRests_117 ?_
                      refine n_if_le (tgt := 135) hx hb dX1_giveByRests_118 (by decide) (by have := hv _ (show i2 < c by omega); omega) (fun c118 => ?_) (fun c118 => ?_)
                      · skip
                        refine lv_iconst (v := (nI 0)) hx hb dX1_giveByRests_135 (by decide) ?_
                        refine lv_istore (lv' := [(10, .int (nI 0)), (0, .ref (ad 0)), (1, .int (nI r)), (2, .int (nI n)), (3, .int (nI (sumTo v c))), (5, .int (nI (qtx r n (sumTo v c)))), (6, .int (nI (byx r n))), (4, .int (nI lf)), (7, .int (nI dm)), (8, .int (oI b)), (9, .int (nI i2))]) hx hb dX1_giveByRests_136 hl (by decide) rfl (fun ls hl => ?_)
                        refine lv_iload hx hb dX1_giveByRests_138 (lv_at hl 0 rfl) ?_
                        refine n_if_eq (tgt := 181) hx hb dX1_giveByRests_140 (by decide) (by omega) (fun c140 => ?_) (fun c140 => absurd c140 (by omega))
                        refine lv_iinc (v := nI (i2 + 1)) (lv' := [(9, .int (nI (i2 + 1))), (10, .int (nI 0)), (0, .ref (ad 0)), (1, .int (nI r)), (2, .int (nI n)), (3, .int (nI (sumTo v c))), (5, .int (nI (qtx r n (sumTo v c)))), (6, .int (nI (byx r n))), (4, .int (nI lf)), (7, .int (nI dm)), (8, .int (oI b))]) hx hb dX1_giveByRests_181 hl (k := 10) rfl (inc1 _) (by decide) rfl (fun ls hl => ?_)
                        refine lv_goto (tgt := 102) hx hb dX1_giveByRests_184 (by decide) ?_
                        exact ih102 (i2 + 1) b (by omega) (by omega) (by rw [bsS_s, ← hbo, bsx_0 (fun z => by omega)]) _ _ h _ (lv_sub hl [2, 3, 4, 5, 6, 7, 8, 9, 10, 0] rfl)
                      · skip
                        refine lv_iload hx hb dX1_giveByRests_121 (lv_at hl 7 rfl) ?_
                        refine lv_iload hx hb dX1_giveByRests_123 (lv_at hl 9 rfl) ?_
                        refine lv_ishr hx hb dX1_giveByRests_125 ?_
                        refine lv_iconst (v := (nI 1)) hx hb dX1_giveByRests_126 (by decide) ?_
                        refine lv_iand hx hb dX1_giveByRests_127 ?_
                        refine n_toe (mask_bit dm hdn.1 i2 (by omega)) ?_
                        refine n_if_ne (tgt := 135) hx hb dX1_giveByRests_128 (by decide) (by unfold bt1; split <;> omega) (fun c128 => ?_) (fun c128 => ?_)
                        · skip
                          refine lv_iconst (v := (nI 0)) hx hb dX1_giveByRests_135 (by decide) ?_
                          refine lv_istore (lv' := [(10, .int (nI 0)), (0, .ref (ad 0)), (1, .int (nI r)), (2, .int (nI n)), (3, .int (nI (sumTo v c))), (5, .int (nI (qtx r n (sumTo v c)))), (6, .int (nI (byx r n))), (4, .int (nI lf)), (7, .int (nI dm)), (8, .int (oI b)), (9, .int (nI i2))]) hx hb dX1_giveByRests_136 hl (by decide) rfl (fun ls hl => ?_)
                          refine lv_iload hx hb dX1_giveByRests_138 (lv_at hl 0 rfl) ?_
                          refine n_if_eq (tgt := 181) hx hb dX1_giveByRests_140 (by decide) (by omega) (fun c140 => ?_) (fun c140 => absurd c140 (by omega))
                          refine lv_iinc (v := nI (i2 + 1)) (lv' := [(9, .int (nI (i2 + 1))), (10, .int (nI 0)), (0, .ref (ad 0)), (1, .int (nI r)), (2, .int (nI n)), (3, .int (nI (sumTo v c))), (5, .int (nI (qtx r n (sumTo v c)))), (6, .int (nI (byx r n))), (4, .int (nI lf)), (7, .int (nI dm)), (8, .int (oI b))]) hx hb dX1_giveByRests_181 hl (k := 10) rfl (inc1 _) (by decide) rfl (fun ls hl => ?_)
                          refine lv_goto (tgt := 102) hx hb dX1_giveByRests_184 (by decide) ?_
                          exact ih102 (i2 + 1) b (by omega) (by omega) (by rw [bsS_s, ← hbo, bsx_0 (fun z => by rw [bt1_1 c128] at z; cases z.2)]) _ _ h _ (lv_sub hl [2, 3, 4, 5, 6, 7, 8, 9, 10, 0] rfl)
                        · skip
                          refine lv_iconst (v := (nI 1)) hx hb dX1_giveByRests_131 (by decide) ?_
                          refine lv_goto (tgt := 136) hx hb dX1_giveByRests_132 (by decide) ?_
                          refine lv_istore (lv' := [(10, .int (nI 1)), (0, .ref (ad 0)), (1, .int (nI r)), (2, .int (nI n)), (3, .int (nI (sumTo v c))), (5, .int (nI (qtx r n (sumTo v c)))), (6, .int (nI (byx r n))), (4, .int (nI lf)), (7, .int (nI dm)), (8, .int (oI b)), (9, .int (nI i2))]) hx hb dX1_giveByRests_136 hl (by decide) rfl (fun ls hl => ?_)
                          refine lv_iload hx hb dX1_giveByRests_138 (lv_at hl 0 rfl) ?_
                          refine n_if_eq (tgt := 181) hx hb dX1_giveByRests_140 (by decide) (by omega) (fun c140 => absurd c140 (by omega)) (fun c140 => ?_)
                          refine lv_iload hx hb dX1_giveByRests_143 (lv_at hl 9 rfl) ?_
                          refine o_if_lt (tgt := 177) hx hb dX1_giveByRests_145 (by decide) (fun j hj => by have := (bsS_some (hbo.symm.trans hj)).1; omega) (fun c145 => ?_) (fun j145 c145 => ?_)
                          · skip
                            subst c145
                            have hl : lv_has ls 11 [(10, .int (nI 1)), (0, .ref (ad 0)), (1, .int (nI r)), (2, .int (nI n)), (3, .int (nI (sumTo v c))), (5, .int (nI (qtx r n (sumTo v c)))), (6, .int (nI (byx r n))), (4, .int (nI lf)), (7, .int (nI dm)), (8, .int (oI none)), (9, .int (nI i2))] := hl
                            refine lv_iload hx hb dX1_giveByRests_177 (lv_at hl 10 rfl) ?_
                            refine lv_istore (lv' := [(8, .int (nI i2)), (10, .int (nI 1)), (0, .ref (ad 0)), (1, .int (nI r)), (2, .int (nI n)), (3, .int (nI (sumTo v c))), (5, .int (nI (qtx r n (sumTo v c)))), (6, .int (nI (byx r n))), (4, .int (nI lf)), (7, .int (nI dm)), (9, .int (nI i2))]) hx hb dX1_giveByRests_179 hl (by decide) rfl (fun ls hl => ?_)
                            refine lv_iinc (v := nI (i2 + 1)) (lv' := [(9, .int (nI (i2 + 1))), (8, .int (nI i2)), (10, .int (nI 1)), (0, .ref (ad 0)), (1, .int (nI r)), (2, .int (nI n)), (3, .int (nI (sumTo v c))), (5, .int (nI (qtx r n (sumTo v c)))), (6, .int (nI (byx r n))), (4, .int (nI lf)), (7, .int (nI dm))]) hx hb dX1_giveByRests_181 hl (k := 10) rfl (inc1 _) (by decide) rfl (fun ls hl => ?_)
                            refine lv_goto (tgt := 102) hx hb dX1_giveByRests_184 (by decide) ?_
                            exact ih102 (i2 + 1) (some i2) (by omega) (by omega) (by rw [bsS_s, ← hbo]; simp only [bsx]; rw [if_pos ⟨c118, bt1_0 c128⟩]) _ _ h _ (lv_sub hl [3, 4, 5, 6, 7, 8, 9, 10, 1, 0] rfl)
                          · skip
                            subst c145
                            have hl : lv_has ls 11 [(10, .int (nI 1)), (0, .ref (ad 0)), (1, .int (nI r)), (2, .int (nI n)), (3, .int (nI (sumTo v c))), (5, .int (nI (qtx r n (sumTo v c)))), (6, .int (nI (byx r n))), (4, .int (nI lf)), (7, .int (nI dm)), (8, .int (nI j145)), (9, .int (nI i2))] := hl
                            have hj145 := (bsS_some hbo.symm).1
                            have q5 := hv i2 (by omega)
                            have q6 := Nat.mul_le_mul q5 hby
                            have q7 := hv j145 (by omega)
                            have q8 := Nat.mul_le_mul q7 hby
                            refine lv_aload_n hx hb dX1_giveByRests_148 rfl (lv_at hl 1 rfl) ?_
                            refine y_getV G h dX1_giveByRests_149 ?_
                            refine lv_iload hx hb dX1_giveByRests_152 (lv_at hl 10 rfl) ?_
                            refine y_ldV G h (by omega) dX1_giveByRests_154 ?_
                            refine lv_iload hx hb dX1_giveByRests_155 (lv_at hl 6 rfl) ?_
                            refine n_imul hx hb dX1_giveByRests_157 ?_
                            refine lv_iload hx hb dX1_giveByRests_158 (lv_at hl 5 rfl) ?_
                            refine n_irem hx hb dX1_giveByRests_160 (by omega) hq (by omega) ?_
                            refine lv_aload_n hx hb dX1_giveByRests_161 rfl (lv_at hl 1 rfl) ?_
                            refine y_getV G h dX1_giveByRests_162 ?_
                            refine lv_iload hx hb dX1_giveByRests_165 (lv_at hl 9 rfl) ?_
                            refine y_ldV G h (by omega) dX1_giveByRests_167 ?_
                            refine lv_iload hx hb dX1_giveByRests_168 (lv_at hl 6 rfl) ?_
                            refine n_imul hx hb dX1_giveByRests_170 ?_
                            refine lv_iload hx hb dX1_giveByRests_171 (lv_at hl 5 rfl) ?_
                            refine n_irem hx hb dX1_giveByRests_173 (by omega) hq (by omega) ?_
                            refine n_icmp_le (tgt := 181) hx hb dX1_giveByRests_174 (by decide) (hrmb i2) (hrmb j145) (fun c174 => ?_) (fun c174 => ?_)
                            · skip
                              refine lv_iinc (v := nI (i2 + 1)) (lv' := [(9, .int (nI (i2 + 1))), (10, .int (nI 1)), (0, .ref (ad 0)), (1, .int (nI r)), (2, .int (nI n)), (3, .int (nI (sumTo v c))), (5, .int (nI (qtx r n (sumTo v c)))), (6, .int (nI (byx r n))), (4, .int (nI lf)), (7, .int (nI dm)), (8, .int (nI j145))]) hx hb dX1_giveByRests_181 hl (k := 10) rfl (inc1 _) (by decide) rfl (fun ls hl => ?_)
                              refine lv_goto (tgt := 102) hx hb dX1_giveByRests_184 (by decide) ?_
                              exact ih102 (i2 + 1) (some j145) (by omega) (by omega) (by rw [bsS_s, ← hbo]; simp only [bsx]; rw [if_neg (fun z => absurd z.2 (Nat.not_lt.mpr c174))]) _ _ h _ (lv_sub hl [2, 3, 4, 5, 6, 7, 8, 9, 10, 0] rfl)
                            · skip
                              refine lv_iload hx hb dX1_giveByRests_177 (lv_at hl 10 rfl) ?_
                              refine lv_istore (lv' := [(8, .int (nI i2)), (10, .int (nI 1)), (0, .ref (ad 0)), (1, .int (nI r)), (2, .int (nI n)), (3, .int (nI (sumTo v c))), (5, .int (nI (qtx r n (sumTo v c)))), (6, .int (nI (byx r n))), (4, .int (nI lf)), (7, .int (nI dm)), (9, .int (nI i2))]) hx hb dX1_giveByRests_179 hl (by decide) rfl (fun ls hl => ?_)
                              refine lv_iinc (v := nI (i2 + 1)) (lv' := [(9, .int (nI (i2 + 1))), (8, .int (nI i2)), (10, .int (nI 1)), (0, .ref (ad 0)), (1, .int (nI r)), (2, .int (nI n)), (3, .int (nI (sumTo v c))), (5, .int (nI (qtx r n (sumTo v c)))), (6, .int (nI (byx r n))), (4, .int (nI lf)), (7, .int (nI dm))]) hx hb dX1_giveByRests_181 hl (k := 10) rfl (inc1 _) (by decide) rfl (fun ls hl => ?_)
                              refine lv_goto (tgt := 102) hx hb dX1_giveByRests_184 (by decide) ?_
                              exact ih102 (i2 + 1) (some i2) (by omega) (by omega) (by rw [bsS_s, ← hbo]; simp only [bsx]; rw [if_pos ⟨⟨c118, bt1_0 c128⟩, c174⟩]) _ _ h _ (lv_sub hl [3, 4, 5, 6, 7, 8, 9, 10, 1, 0] rfl)
                exact L102 _ 0 none (Nat.lt_succ_self _) (Nat.zero_le _) rfl _ _ h _ (lv_sub hl [2, 3, 4, 5, 6, 7, 8, 9, 1, 0] rfl)
          exact L91 _ (n - sumTo (baR r v n (sumTo v c)) c) 0 0 (baR r v n (sumTo v c)) (Nat.lt_succ_self _) (Nat.sub_le _ _) (Nat.zero_le _) Dn.zero (by rw [if_pos hab]; rfl) _ _ h _ (lv_sub hl [1, 2, 3, 4, 5, 6, 7, 0] rfl)
        · skip
          have hvi := hv i (by omega)
          have b9 := Nat.mul_le_mul hvi hby
          refine lv_aload_n hx hb dX1_giveByRests_50 rfl (lv_at hl 0 rfl) ?_
          refine y_getS G h dX1_giveByRests_51 ?_
          refine lv_iload hx hb dX1_giveByRests_54 (lv_at hl 7 rfl) ?_
          refine lv_aload_n hx hb dX1_giveByRests_56 rfl (lv_at hl 0 rfl) ?_
          refine y_getV G h dX1_giveByRests_57 ?_
          refine lv_iload hx hb dX1_giveByRests_60 (lv_at hl 7 rfl) ?_
          refine y_ldV G h (by omega) dX1_giveByRests_62 ?_
          refine lv_iload hx hb dX1_giveByRests_63 (lv_at hl 5 rfl) ?_
          refine n_imul hx hb dX1_giveByRests_65 ?_
          refine lv_iload hx hb dX1_giveByRests_66 (lv_at hl 4 rfl) ?_
          refine n_idiv hx hb dX1_giveByRests_68 (by omega) hq (by omega) ?_
          refine y_stS (S' := ov (i + 1) (baR r v n (sumTo v c)) S) G h (by omega) ov_step dX1_giveByRests_69 (fun H locs h => ?_)
          refine lv_iload hx hb dX1_giveByRests_70 (lv_at hl 6 rfl) ?_
          refine lv_aload_n hx hb dX1_giveByRests_72 rfl (lv_at hl 0 rfl) ?_
          refine y_getS G h dX1_giveByRests_73 ?_
          refine lv_iload hx hb dX1_giveByRests_76 (lv_at hl 7 rfl) ?_
          refine y_ldS (x := (nI (baR r v n (sumTo v c) i))) G h (by omega) (ov_lt (by omega)) dX1_giveByRests_78 ?_
          refine n_isub hx hb dX1_giveByRests_79 (by have q1 := sumTo_mono (v := baR r v n (sumTo v c)) (show i + 1 ≤ c by omega); have q2 : sumTo (baR r v n (sumTo v c)) (i + 1) = sumTo (baR r v n (sumTo v c)) i + (baR r v n (sumTo v c)) i := rfl; omega) ?_
          refine n_toe (show _ = nI (n - sumTo (baR r v n (sumTo v c)) (i + 1)) from congrArg nI (Nat.sub_sub _ _ _)) ?_
          refine lv_istore (lv' := [(4, .int (nI (n - sumTo (baR r v n (sumTo v c)) (i + 1)))), (0, .ref (ad 0)), (1, .int (nI r)), (2, .int (nI n)), (3, .int (nI (sumTo v c))), (5, .int (nI (qtx r n (sumTo v c)))), (6, .int (nI (byx r n))), (7, .int (nI i))]) hx hb dX1_giveByRests_80 hl (by decide) rfl (fun ls hl => ?_)
          refine lv_iinc (v := nI (i + 1)) (lv' := [(7, .int (nI (i + 1))), (4, .int (nI (n - sumTo (baR r v n (sumTo v c)) (i + 1)))), (0, .ref (ad 0)), (1, .int (nI r)), (2, .int (nI n)), (3, .int (nI (sumTo v c))), (5, .int (nI (qtx r n (sumTo v c)))), (6, .int (nI (byx r n)))]) hx hb dX1_giveByRests_82 hl (k := 7) rfl (inc1 _) (by decide) rfl (fun ls hl => ?_)
          refine lv_goto (tgt := 41) hx hb dX1_giveByRests_85 (by decide) ?_
          exact ih41 (i + 1) (by omega) (by omega) _ _ h _ (lv_sub hl [2, 3, 4, 5, 6, 7, 1, 0] rfl)
    exact L41 _ 0 (Nat.lt_succ_self _) (by omega) _ _ h _ (lv_sub hl [2, 3, 4, 5, 7, 1, 6, 0] rfl)
  have J24 :  ∀ (H : Heap) (locs : List Loc), HY D A ad cI s.heap c t v S K H locs → ∀ (ls : Array Slot), lv_has ls 11 [(0, .ref (ad 0)), (1, .int (nI r)), (2, .int (nI n)), (3, .int (nI (sumTo v c))), (4, .int (nI n))] → W p l e (rmm 1 22) s m args below meth cd H locs 0 0 Q (F0 m 24 ls [.int (nI (qtx r n (sumTo v c)))]) := by
    intro   H locs h ls hl
    refine lv_istore (lv' := [(5, .int (nI (qtx r n (sumTo v c)))), (0, .ref (ad 0)), (1, .int (nI r)), (2, .int (nI n)), (3, .int (nI (sumTo v c))), (4, .int (nI n))]) hx hb dX1_giveByRests_24 hl (by decide) rfl (fun ls hl => ?_)
    refine lv_iload_n hx hb dX1_giveByRests_26 rfl (lv_at hl 2 rfl) ?_
    refine lv_iconst (v := (nI 5)) hx hb dX1_giveByRests_27 (by decide) ?_
    refine n_icmp_ne (tgt := 35) hx hb dX1_giveByRests_28 (by decide) (by omega) (by omega) (fun c28 => ?_) (fun c28 => ?_)
    · skip
      refine lv_iconst (v := (nI 1)) hx hb dX1_giveByRests_35 (by decide) ?_
      refine n_toe (show nI 1 = nI (byx r n) from congrArg nI (by unfold byx; split <;> first | rfl | omega)) ?_
      exact J36   _ _ h _ (lv_sub hl [1, 2, 3, 4, 5, 0] rfl)
    · skip
      refine lv_iload_n hx hb dX1_giveByRests_31 rfl (lv_at hl 3 rfl) ?_
      refine lv_goto (tgt := 36) hx hb dX1_giveByRests_32 (by decide) ?_
      refine n_toe (show nI n = nI (byx r n) from congrArg nI (by unfold byx; split <;> first | rfl | omega)) ?_
      exact J36   _ _ h _ (lv_sub hl [1, 2, 3, 4, 5, 0] rfl)
  refine lv_aload_n hx hb dX1_giveByRests_0 rfl (lv_at hl 0 rfl) ?_
  refine y_callr (x := (nI (sumTo v c))) G h (mY_votes l D ad cI c t v S K hc) kY_votes rfl ⟨Nat.le_of_ble_eq_true rfl, Nat.le_of_ble_eq_true rfl, Nat.le_refl _, Nat.le_refl _⟩ hl.1 rfl (Nat.le_of_ble_eq_true rfl) dX1_giveByRests_1 (fun H locs h => ?_)
  refine lv_istore_n (lv' := [(3, .int (nI (sumTo v c))), (0, .ref (ad 0)), (1, .int (nI r)), (2, .int (nI n))]) hx hb dX1_giveByRests_4 rfl hl (by decide) rfl (fun ls hl => ?_)
  refine lv_iload_n hx hb dX1_giveByRests_5 rfl (lv_at hl 3 rfl) ?_
  refine lv_istore (lv' := [(4, .int (nI n)), (3, .int (nI (sumTo v c))), (0, .ref (ad 0)), (1, .int (nI r)), (2, .int (nI n))]) hx hb dX1_giveByRests_6 hl (by decide) rfl (fun ls hl => ?_)
  refine lv_iload_n hx hb dX1_giveByRests_8 rfl (lv_at hl 3 rfl) ?_
  refine lv_iconst (v := (nI 5)) hx hb dX1_giveByRests_9 (by decide) ?_
  refine n_icmp_ne (tgt := 17) hx hb dX1_giveByRests_10 (by decide) (by omega) (by omega) (fun c10 => ?_) (fun c10 => ?_)
  · skip
    refine lv_iload_n hx hb dX1_giveByRests_17 rfl (lv_at hl 1 rfl) ?_
    refine lv_iload_n hx hb dX1_giveByRests_18 rfl (lv_at hl 4 rfl) ?_
    refine lv_iconst (v := (nI 1)) hx hb dX1_giveByRests_19 (by decide) ?_
    refine n_iadd hx hb dX1_giveByRests_20 ?_
    refine n_idiv hx hb dX1_giveByRests_21 (by omega) (by omega) (by omega) ?_
    refine lv_iconst (v := (nI 1)) hx hb dX1_giveByRests_22 (by decide) ?_
    refine n_iadd hx hb dX1_giveByRests_23 ?_
    refine n_toe (show nI (((sumTo v c) / (n + 1)) + 1) = nI (qtx r n (sumTo v c)) from congrArg nI (by unfold qtx; split <;> first | rfl | omega)) ?_
    exact J24   _ _ h _ (lv_sub hl [2, 3, 4, 1, 0] rfl)
  · skip
    refine lv_iload_n hx hb dX1_giveByRests_13 rfl (lv_at hl 1 rfl) ?_
    refine lv_goto (tgt := 24) hx hb dX1_giveByRests_14 (by decide) ?_
    refine n_toe (show nI (sumTo v c) = nI (qtx r n (sumTo v c)) from congrArg nI (by unfold qtx; split <;> first | rfl | omega)) ?_
    exact J24   _ _ h _ (lv_sub hl [2, 3, 4, 1, 0] rfl)
set_option maxHeartbeats 4000000 in
theorem mY_give (l : Launch) (D : va_G) (ad : Nat → Nat) (cI : ClassId) (c t : Nat) (v : Nat → Nat) (S K : Nat → Int32) (r n : Nat) (hr7 : r < 7) (hc : c ≤ 6) (hv : ∀ j, j < c → v j ≤ 2999) (hn : n ≤ 31) : Mv l D (tyY cI) (WY ad cI) yX1_give cX1_give 4 none 3 74 (ad 0) [.int (nI r), .int (nI n)] (c, t, v, S, K) (fun u => ∃ S', u = (c, t, v, S', K) ∧ ∀ j, j < c → S' j = nI (sh r v c n j)) := by
  refine Mv.of (by decide) (Nat.le_of_ble_eq_true rfl) rfl ?_
  intro p e s m args below meth cd A ls Q G h hl hret
  have G : GY D A cI p s m args cd cX1_give 4 := G
  have h : HY D A ad cI s.heap c t v S K s.heap [] := h
  have hl : lv_has ls 4 [(0, .ref (ad 0)), (1, .int (nI r)), (2, .int (nI n))] := hl
  have hx := G.1.1
  have hb := G.1.2.1
  have hal : sumTo v c ≤ 17994 := by have := sumTo_le hv; have h2 : c * 2999 ≤ 6 * 2999 := Nat.mul_le_mul_right _ hc; omega
  refine lv_iconst (v := (nI 0)) hx hb dX1_give_0 (by decide) ?_
  refine lv_istore_n (lv' := [(3, .int (nI 0)), (0, .ref (ad 0)), (1, .int (nI r)), (2, .int (nI n))]) hx hb dX1_give_1 rfl hl (by decide) rfl (fun ls hl => ?_)
  have h := y_cS (ov_0 (s := (fun _ => 0))).symm h
  have L2 : ∀ (n2 : Nat) (i : Nat), 6 - i < n2 → (i ≤ 6) → ∀ (H : Heap) (locs : List Loc), HY D A ad cI s.heap c t v (ov i (fun _ => 0) S) K H locs → ∀ (ls : Array Slot), lv_has ls 4 [(0, .ref (ad 0)), (1, .int (nI r)), (2, .int (nI n)), (3, .int (nI i))] → W p l e (rmm 3 74) s m args below meth cd H locs 0 0 Q (F0 m 2 ls []) := by
    intro n2
    induction n2 with
    | zero =>
      intro i hm
      exact absurd hm (Nat.not_lt_zero _)
    | succ n2 ih2 =>
      intro i hm2 hi H locs h ls hl
      refine lv_iload_n hx hb dX1_give_2 rfl (lv_at hl 3 rfl) ?_
      refine lv_bipush (v := (nI 6)) hx hb dX1_give_3 (by decide) ?_
      refine n_icmp_ge (tgt := 21) hx hb dX1_give_5 (by decide) (by omega) (by omega) (fun c5 => ?_) (fun c5 => ?_)
      · skip
        have hS0 : ∀ j, j < c → ov i (fun _ => 0) S j = nI 0 := fun j hj => ov_lt (by omega)
        refine lv_aload_n hx hb dX1_give_21 rfl (lv_at hl 0 rfl) ?_
        refine y_callr (x := (nI (sumTo v c))) G h (mY_votes l D ad cI c t v (ov i (fun _ => 0) S) K hc) kY_votes rfl ⟨Nat.le_of_ble_eq_true rfl, Nat.le_of_ble_eq_true rfl, Nat.le_refl _, Nat.le_refl _⟩ hl.1 rfl (Nat.le_of_ble_eq_true rfl) dX1_give_22 (fun H locs h => ?_)
        refine lv_istore_n (lv' := [(3, .int (nI (sumTo v c))), (0, .ref (ad 0)), (1, .int (nI r)), (2, .int (nI n))]) hx hb dX1_give_25 rfl hl (by decide) rfl (fun ls hl => ?_)
        refine lv_iload_n hx hb dX1_give_26 rfl (lv_at hl 0 rfl) ?_
        refine n_if_eq (tgt := 34) hx hb dX1_give_27 (by decide) (by omega) (fun c27 => ?_) (fun c27 => ?_)
        · skip
          exact hret _ _ _ _ (c, t, v, ov i (fun _ => 0) S, K) h ⟨_, rfl, fun j hj => by rw [hS0 j hj, sh_0 c27]⟩ dX1_give_34
        · skip
          refine lv_iload_n hx hb dX1_give_30 rfl (lv_at hl 3 rfl) ?_
          refine n_if_ne (tgt := 35) hx hb dX1_give_31 (by decide) (by omega) (fun c31 => ?_) (fun c31 => ?_)
          · skip
            refine lv_iload_n hx hb dX1_give_35 rfl (lv_at hl 2 rfl) ?_
            refine lv_iconst (v := (nI 5)) hx hb dX1_give_36 (by decide) ?_
            refine n_icmp_ge (tgt := 49) hx hb dX1_give_37 (by decide) (by omega) (by omega) (fun c37 => ?_) (fun c37 => ?_)
            · skip
              refine lv_aload_n hx hb dX1_give_49 rfl (lv_at hl 1 rfl) ?_
              refine lv_iload_n hx hb dX1_give_50 rfl (lv_at hl 2 rfl) ?_
              refine lv_iload_n hx hb dX1_give_51 rfl (lv_at hl 3 rfl) ?_
              refine y_callv G h (mY_giveByRests l D ad cI c t v (ov i (fun _ => 0) S) K r n hr7 hc hv hn (by omega)) kY_giveByRests rfl ⟨Nat.le_of_ble_eq_true rfl, Nat.le_of_ble_eq_true rfl, Nat.le_refl _, Nat.le_refl _⟩ hl.1 rfl (Nat.le_of_ble_eq_true rfl) dX1_give_52 (fun c1 t1 v1 S1 K1 H locs hp h => ?_)
              obtain ⟨S2, e1, hS2⟩ := hp
              cases e1
              exact hret _ _ _ _ (c, t, v, S1, K) h ⟨_, rfl, fun j hj => by rw [hS2 j hj]; unfold sh; rw [if_neg (by omega), if_neg (by omega)]⟩ dX1_give_55
            · skip
              refine lv_aload_n hx hb dX1_give_40 rfl (lv_at hl 1 rfl) ?_
              refine lv_iload_n hx hb dX1_give_41 rfl (lv_at hl 2 rfl) ?_
              refine lv_iload_n hx hb dX1_give_42 rfl (lv_at hl 3 rfl) ?_
              refine y_callv G h (mY_giveByQuotients l D ad cI c t v (ov i (fun _ => 0) S) K r n hr7 hc hv hn (by omega) hS0) kY_giveByQuotients rfl ⟨Nat.le_of_ble_eq_true rfl, Nat.le_of_ble_eq_true rfl, Nat.le_refl _, Nat.le_refl _⟩ hl.1 rfl (Nat.le_of_ble_eq_true rfl) dX1_give_43 (fun c1 t1 v1 S1 K1 H locs hp h => ?_)
              obtain ⟨S2, e1, hS2⟩ := hp
              cases e1
              refine lv_goto (tgt := 55) hx hb dX1_give_46 (by decide) ?_
              exact hret _ _ _ _ (c, t, v, S1, K) h ⟨_, rfl, fun j hj => by rw [hS2 j hj, sh_Q (by omega) (by omega), shQ_eq rfl (by omega) j hj]⟩ dX1_give_55
          · skip
            exact hret _ _ _ _ (c, t, v, ov i (fun _ => 0) S, K) h ⟨_, rfl, fun j hj => by rw [hS0 j hj]; exact congrArg nI (by have := sh_le (r := r) (v := v) (n := n) hj; omega)⟩ dX1_give_34
      · skip
        refine lv_aload_n hx hb dX1_give_8 rfl (lv_at hl 0 rfl) ?_
        refine y_getS G h dX1_give_9 ?_
        refine lv_iload_n hx hb dX1_give_12 rfl (lv_at hl 3 rfl) ?_
        refine lv_iconst (v := (nI 0)) hx hb dX1_give_13 (by decide) ?_
        refine y_stS (S' := ov (i + 1) (fun _ => 0) S) G h (by omega) (ov_step (s := (fun _ => 0))) dX1_give_14 (fun H locs h => ?_)
        refine lv_iinc (v := nI (i + 1)) (lv' := [(3, .int (nI (i + 1))), (0, .ref (ad 0)), (1, .int (nI r)), (2, .int (nI n))]) hx hb dX1_give_15 hl (k := 3) rfl (inc1 _) (by decide) rfl (fun ls hl => ?_)
        refine lv_goto (tgt := 2) hx hb dX1_give_18 (by decide) ?_
        exact ih2 (i + 1) (by omega) (by omega) _ _ h _ (lv_sub hl [1, 2, 3, 0] rfl)
  exact L2 _ 0 (Nat.lt_succ_self _) (by omega) _ _ h _ (lv_sub hl [1, 2, 3, 0] rfl)
set_option maxHeartbeats 4000000 in
theorem mY_keep (l : Launch) (D : va_G) (ad : Nat → Nat) (cI : ClassId) (c t : Nat) (v : Nat → Nat) (S K : Nat → Int32) (hc : c ≤ 6) : Mv l D (tyY cI) (WY ad cI) yX1_keep cX1_keep 2 none 0 0 (ad 0) [] (c, t, v, S, K) (fun u => ∃ K', u = (c, t, v, S, K') ∧ ∀ j, j < c → K' j = S j) := by
  refine Mv.of (by decide) (Nat.le_of_ble_eq_true rfl) rfl ?_
  intro p e s m args below meth cd A ls Q G h hl hret
  have G : GY D A cI p s m args cd cX1_keep 2 := G
  have h : HY D A ad cI s.heap c t v S K s.heap [] := h
  have hl : lv_has ls 2 [(0, .ref (ad 0))] := hl
  have hx := G.1.1
  have hb := G.1.2.1
  refine lv_iconst (v := (nI 0)) hx hb dX1_keep_0 (by decide) ?_
  refine lv_istore_n (lv' := [(1, .int (nI 0)), (0, .ref (ad 0))]) hx hb dX1_keep_1 rfl hl (by decide) rfl (fun ls hl => ?_)
  have L2 : ∀ (n2 : Nat) (i : Nat) (F : Nat → Int32), 6 - i < n2 → (i ≤ 6) → (∀ j, j < i → F j = S j) → ∀ (H : Heap) (locs : List Loc), HY D A ad cI s.heap c t v S F H locs → ∀ (ls : Array Slot), lv_has ls 2 [(0, .ref (ad 0)), (1, .int (nI i))] → W p l e (rmm 0 0) s m args below meth cd H locs 0 0 Q (F0 m 2 ls []) := by
    intro n2
    induction n2 with
    | zero =>
      intro i F hm
      exact absurd hm (Nat.not_lt_zero _)
    | succ n2 ih2 =>
      intro i F hm2 hi hF H locs h ls hl
      refine lv_iload_n hx hb dX1_keep_2 rfl (lv_at hl 1 rfl) ?_
      refine lv_bipush (v := (nI 6)) hx hb dX1_keep_3 (by decide) ?_
      refine n_icmp_ge (tgt := 26) hx hb dX1_keep_5 (by decide) (by omega) (by omega) (fun c5 => ?_) (fun c5 => ?_)
      · skip
        exact hret _ _ _ _ (c, t, v, S, F) h ⟨_, rfl, fun j hj => hF j (by omega)⟩ dX1_keep_26
      · skip
        refine lv_aload_n hx hb dX1_keep_8 rfl (lv_at hl 0 rfl) ?_
        refine y_getK G h dX1_keep_9 ?_
        refine lv_iload_n hx hb dX1_keep_12 rfl (lv_at hl 1 rfl) ?_
        refine lv_aload_n hx hb dX1_keep_13 rfl (lv_at hl 0 rfl) ?_
        refine y_getS G h dX1_keep_14 ?_
        refine lv_iload_n hx hb dX1_keep_17 rfl (lv_at hl 1 rfl) ?_
        refine y_ldS (x := (S i)) G h (by omega) rfl dX1_keep_18 ?_
        refine y_stK (K' := upd F i (S i)) G h (by omega) rfl dX1_keep_19 (fun H locs h => ?_)
        refine lv_iinc (v := nI (i + 1)) (lv' := [(1, .int (nI (i + 1))), (0, .ref (ad 0))]) hx hb dX1_keep_20 hl (k := 1) rfl (inc1 _) (by decide) rfl (fun ls hl => ?_)
        refine lv_goto (tgt := 2) hx hb dX1_keep_23 (by decide) ?_
        exact ih2 (i + 1) (upd F i (S i)) (by omega) (by omega) (upd_keep hF) _ _ h _ (lv_sub hl [1, 0] rfl)
  exact L2 _ 0 K (Nat.lt_succ_self _) (Nat.zero_le _) (fun j h => absurd h (Nat.not_lt_zero _)) _ _ h _ (lv_sub hl [1, 0] rfl)
set_option maxHeartbeats 4000000 in
theorem mY_shareWith (l : Launch) (D : va_G) (ad : Nat → Nat) (cI : ClassId) (c t : Nat) (v : Nat → Nat) (S K : Nat → Int32) (r i x : Nat) (hr7 : r < 7) (hc : c ≤ 6) (hi : i < c) (hv : ∀ j, j < c → v j ≤ 2999) (hx2 : x ≤ 2999) (ht : t ≤ 30) : Mi l D (tyY cI) (WY ad cI) yX1_shareWith cX1_shareWith 5 (some .int) 4 97 (ad 0) [.int (nI r), .int (nI i), .int (nI x)] (c, t, v, S, K) (fun z u => z = nI (sh r (va_up v i x) c t i) ∧ ∃ S', u = (c, t, v, S', K)) := by
  refine Mi.of (by decide) (Nat.le_of_ble_eq_true rfl) ?_
  intro p e s m args below meth cd A ls Q G hrt h hl hret
  have G : GY D A cI p s m args cd cX1_shareWith 5 := G
  have h : HY D A ad cI s.heap c t v S K s.heap [] := h
  have hl : lv_has ls 5 [(0, .ref (ad 0)), (1, .int (nI r)), (2, .int (nI i)), (3, .int (nI x))] := hl
  have hx := G.1.1
  have hb := G.1.2.1
  have hv2 : ∀ j, j < c → va_up v i x j ≤ 2999 := up_le hv hx2
  refine lv_aload_n hx hb dX1_shareWith_0 rfl (lv_at hl 0 rfl) ?_
  refine y_getV G h dX1_shareWith_1 ?_
  refine lv_iload_n hx hb dX1_shareWith_4 rfl (lv_at hl 2 rfl) ?_
  refine y_ldV G h (by omega) dX1_shareWith_5 ?_
  refine lv_istore (lv' := [(4, .int (nI (v i))), (0, .ref (ad 0)), (1, .int (nI r)), (2, .int (nI i)), (3, .int (nI x))]) hx hb dX1_shareWith_6 hl (by decide) rfl (fun ls hl => ?_)
  refine lv_aload_n hx hb dX1_shareWith_8 rfl (lv_at hl 1 rfl) ?_
  refine y_getV G h dX1_shareWith_9 ?_
  refine lv_iload_n hx hb dX1_shareWith_12 rfl (lv_at hl 3 rfl) ?_
  refine lv_iload_n hx hb dX1_shareWith_13 rfl (lv_at hl 4 rfl) ?_
  refine y_stV G h (by omega) dX1_shareWith_14 (fun H locs h => ?_)
  refine lv_aload_n hx hb dX1_shareWith_15 rfl (lv_at hl 1 rfl) ?_
  refine lv_iload_n hx hb dX1_shareWith_16 rfl (lv_at hl 2 rfl) ?_
  refine lv_aload_n hx hb dX1_shareWith_17 rfl (lv_at hl 1 rfl) ?_
  refine y_getT G h dX1_shareWith_18 ?_
  refine y_callv G h (mY_give l D ad cI c t (va_up v i x) S K r t (by omega) hc hv2 (by omega)) kY_give rfl ⟨Nat.le_of_ble_eq_true rfl, Nat.le_of_ble_eq_true rfl, Nat.le_refl _, Nat.le_refl _⟩ hl.1 rfl (Nat.le_of_ble_eq_true rfl) dX1_shareWith_21 (fun c1 t1 v1 Sa1 K1 H locs hp h => ?_)
  obtain ⟨S2, e1, hSa1⟩ := hp
  cases e1
  refine lv_aload_n hx hb dX1_shareWith_24 rfl (lv_at hl 1 rfl) ?_
  refine y_getV G h dX1_shareWith_25 ?_
  refine lv_iload_n hx hb dX1_shareWith_28 rfl (lv_at hl 3 rfl) ?_
  refine lv_iload hx hb dX1_shareWith_29 (lv_at hl 0 rfl) ?_
  refine y_stV G h (by omega) dX1_shareWith_31 (fun H locs h => ?_)
  have h := y_cV (up_back (v := v) (i := i) (x := x)) h
  refine lv_aload_n hx hb dX1_shareWith_32 rfl (lv_at hl 1 rfl) ?_
  refine y_getS G h dX1_shareWith_33 ?_
  refine lv_iload_n hx hb dX1_shareWith_36 rfl (lv_at hl 3 rfl) ?_
  refine y_ldS (x := (nI (sh r (va_up v i x) c t i))) G h (by omega) (hSa1 i hi) dX1_shareWith_37 ?_
  exact hret _ _ _ _ _ (c, t, v, Sa1, K) _ h ⟨rfl, _, rfl⟩ hrt rfl dX1_shareWith_38
end
section
set_option maxRecDepth 100000
theorem barV_keep {p all : Nat} {v : Nat → Nat} {i : Nat} (h : p * all ≤ 100 * v i) : barV p all v i = barV p all v (i + 1) := by
  funext j
  by_cases hj : j = i
  · subst hj
    unfold barV
    rw [if_neg (by omega), if_neg (by omega)]
  · have h2 : (j < i + 1) ↔ (j < i) := by omega
    simp [barV, h2]
theorem barV_zero {p all : Nat} {v : Nat → Nat} {i : Nat} (h : 100 * v i < p * all) : va_up (barV p all v i) i 0 = barV p all v (i + 1) := by
  have := barV_s (p := p) (all := all) (v := v) (i := i) (k := i + 1) (by omega)
  rw [barV_lt (by omega) h] at this
  exact this
theorem next_hit {r : Nat} {v : Nat → Nat} {c t i : Nat} (hr : r < 5) (hi : i < c) (h : sh r v c t i < sh r v c (t + 1) i) : ¬ sumTo v c = 0 ∧ fnS r v (sh r v c t) c = some i := by
  by_cases hp : sumTo v c = 0
  · rw [sh_0 hp, sh_0 hp] at h
    exact absurd h (Nat.lt_irrefl _)
  · have hpp : 0 < sumTo v c := by omega
    refine ⟨hp, ?_⟩
    rw [sh_Q hr hpp] at h ⊢
    rw [sh_Q hr hpp] at h
    obtain ⟨b, h1, h2, h3⟩ := fnS_some (r := r) (v := v) (s := shQ r v c t (sumTo v c)) hpp
    have hs := shQ_step rfl hpp h1 i hi
    by_cases hib : i = b
    · rw [h1, hib]
    · rw [vu_ne hib] at hs
      omega
theorem next_none {r : Nat} {v : Nat → Nat} {c t : Nat} (hr : r < 5) (h : ∀ j, j < c → sh r v c (t + 1) j ≤ sh r v c t j) : sumTo v c = 0 := by
  rcases Nat.eq_zero_or_pos (sumTo v c) with hp | hp
  · exact hp
  · obtain ⟨b, h1, h2, h3⟩ := fnS_some (r := r) (v := v) (s := shQ r v c t (sumTo v c)) hp
    have hs := shQ_step rfl hp h1 b h2
    have hh := h b h2
    rw [vu_eq] at hs
    rw [sh_Q hr hp, sh_Q hr hp] at hh
    omega
theorem sh_house {r : Nat} {v : Nat → Nat} {c n j : Nat} (hr : r < 5) (hj : j < c) : sh r v c n j ≤ sh r v c (n + 1) j := by
  rcases Nat.eq_zero_or_pos (sumTo v c) with hp | hp
  · rw [sh_0 hp]; exact Nat.zero_le _
  · obtain ⟨b, h1, h2, h3⟩ := fnS_some (r := r) (v := v) (s := shQ r v c n (sumTo v c)) hp
    rw [sh_Q hr hp, sh_Q hr hp, shQ_step rfl hp h1 j hj]
    by_cases hjb : j = b
    · subst hjb; rw [vu_eq]; omega
    · rw [vu_ne hjb]; exact Nat.le_refl _
theorem anyTo_f {P : Nat → Bool} : ∀ {c : Nat}, (∀ j, j < c → P j = false) → anyTo P c = false
  | 0, _ => rfl
  | c + 1, h => by rw [anyTo_s, anyTo_f (c := c) (fun j hj => h j (by omega)), h c (by omega)]; rfl
theorem anyTo_t {P : Nat → Bool} {i : Nat} : ∀ {c : Nat}, i < c → P i = true → anyTo P c = true
  | 0, h, _ => by omega
  | c + 1, h, hp => by
    rw [anyTo_s]
    by_cases hc : i = c
    · rw [← hc, hp, Bool.or_true]
    · rw [anyTo_t (c := c) (by omega) hp]; rfl
theorem fall_eq {r : Nat} {v : Nat → Nat} {c t : Nat} : (if r < 5 then -4 else oN (lst (flP r v c) (30 - t) t)) = oN (lst (flP r v c) (30 - t) t) := by
  split
  · rename_i hr
    rw [lst_none (P := flP r v c) (fun m _ _ => anyTo_f (fun j hj => decide_eq_false (Nat.not_lt.mpr (sh_house hr hj))))]
    rfl
  · rfl
theorem far_lo {s e a : Nat} (ha : 0 < a) : s < e / a ↔ s * a + a ≤ e := by
  have h := Nat.le_div_iff_mul_le (x := s + 1) (y := e) ha
  rw [Nat.succ_mul] at h
  exact h
theorem far_hi {s e a : Nat} (ha : 0 < a) : (e + a - 1) / a < s ↔ e + a ≤ s * a := by
  rw [Nat.div_lt_iff_lt_mul ha]
  omega
theorem cntB_n {P : Nat → Bool} : ∀ {c : Nat}, (∀ j, j < c → P j = false) → cntB P c = 0
  | 0, _ => rfl
  | c + 1, h => by rw [cntB_0 (h c (by omega)), cntB_n (c := c) (fun j hj => h j (by omega))]
theorem gst_hit {P : Nat → Bool} {k : Nat} (h : P k = true) : gst P k = k := by
  cases k with
  | zero => rfl
  | succ k => rw [gst, h]; rfl
theorem gst_miss {P : Nat → Bool} {k : Nat} (hk : 0 < k) (h : P k = false) : gst P k = gst P (k - 1) := by
  obtain ⟨g, rfl⟩ : ∃ g, k = g + 1 := ⟨k - 1, by omega⟩
  rw [gst, h]; rfl
theorem bxM_first {w : Nat → Nat} : ∀ {i j : Nat}, j < bxM w i → w j < w (bxM w i)
  | 0, j, h => by simp [bxM] at h
  | i + 1, j, h => by
    rw [bxM_s] at h ⊢
    split
    · rename_i q
      rw [if_pos q] at h
      have := bxM_max (w := w) h
      omega
    · rename_i q
      rw [if_neg q] at h
      exact bxM_first h
theorem bx_rel {sx wf : Nat → Nat} {c : Nat} (h : ∀ j, j < c → (wf j = 0 ∧ sx j = 0) ∨ wf j = sx j + 1) (hp : 0 < sumTo sx c) : bxM wf c = bxM sx c := by
  obtain ⟨j, hj, hjp⟩ := sumTo_pos hp
  have hc : 0 < c := by omega
  have a1 := bxM_lt (w := wf) (Nat.le_refl c) hc
  have a2 := bxM_lt (w := sx) (Nat.le_refl c) hc
  have m1 := bxM_max (w := wf) a2
  have m2 := bxM_max (w := sx) a1
  have m3 := bxM_max (w := sx) hj
  have r1 := h _ a1
  have r2 := h _ a2
  rcases Nat.lt_trichotomy (bxM wf c) (bxM sx c) with q | q | q
  · have := bxM_first (w := sx) q
    omega
  · exact q
  · have := bxM_first (w := wf) q
    omega
theorem mj_cnt {sx wf : Nat → Nat} {c : Nat} (h : ∀ j, j < c → (wf j = 0 ∧ sx j = 0) ∨ wf j = sx j + 1) (hp : 0 < sumTo sx c) : 0 < cntP wf c := by
  obtain ⟨j, hj, hjp⟩ := sumTo_pos hp
  have := h j hj
  exact cntP_pos (Nat.lt_of_lt_of_le (show 0 < wf j by omega) (sumTo_at hj))
theorem mj_rel {sx wf : Nat → Nat} {c b : Nat} (h : ∀ j, j < c → (wf j = 0 ∧ sx j = 0) ∨ wf j = sx j + 1) : ∀ j, j < c → (va_up wf b 0 j = 0 ∧ va_up sx b 0 j = 0) ∨ va_up wf b 0 j = va_up sx b 0 j + 1 := by
  intro j hj
  by_cases hq : j = b
  · subst hq
    rw [vu_eq, vu_eq]
    exact Or.inl ⟨rfl, rfl⟩
  · rw [vu_ne hq, vu_ne hq]
    exact h j hj
set_option maxHeartbeats 4000000 in
theorem mY_list (l : Launch) (D : va_G) (ad : Nat → Nat) (cI : ClassId) (c t : Nat) (v : Nat → Nat) (S K : Nat → Int32) (a : Int32) (hc : c ≤ 6) (ht : t ≤ 30) (hv : ∀ j, j < c → v j ≤ 999) : Mi l D (tyY cI) (WY ad cI) yX1_list cX1_list 2 (some .int) 1 21 (ad 0) [.int a] (c, t, v, S, K) (pubY (sp_list c t v a)) := by
  refine Mi.of (by decide) (Nat.le_of_ble_eq_true rfl) ?_
  intro p e s m args below meth cd A ls Q G hrt h hl hret
  have G : GY D A cI p s m args cd cX1_list 2 := G
  have h : HY D A ad cI s.heap c t v S K s.heap [] := h
  have hl : lv_has ls 2 [(0, .ref (ad 0)), (1, .int a)] := hl
  have hx := G.1.1
  have hb := G.1.2.1
  have hv3 : ∀ j, j < c → v j ≤ 2999 := fun j hj => by have := hv j hj; omega
  have hal : sumTo v c ≤ 5994 := by have := sumTo_le hv; have h2 : c * 999 ≤ 6 * 999 := Nat.mul_le_mul_right _ hc; omega
  cases ha : ix 1000 a with
  | none =>
    refine lv_aload_n hx hb dX1_list_0 rfl (lv_at hl 0 rfl) ?_
    refine lv_iload_n hx hb dX1_list_1 rfl (lv_at hl 1 rfl) ?_
    refine y_callr (x := nI 1) G h (mY_noVotes1 l D ad cI c t v S K a ha) kY_noVotes rfl ⟨Nat.le_of_ble_eq_true rfl, Nat.le_of_ble_eq_true rfl, Nat.le_refl _, Nat.le_refl _⟩ hl.1 rfl (Nat.le_of_ble_eq_true rfl) dX1_list_2 (fun H locs h => ?_)
    refine n_if_eq (tgt := 10) hx hb dX1_list_5 (by decide) (by omega) (fun c5 => absurd c5 (by omega)) (fun c5 => ?_)
    refine lv_iconst (v := (-1)) hx hb dX1_list_8 (by decide) ?_
    exact hret _ _ _ _ _ (c, t, v, S, K) _ h (pubY_i (by simp only [sp_list, ha])) hrt rfl dX1_list_9
  | some xv =>
    obtain ⟨hxv, rfl⟩ := ix_some (by decide) ha
    refine lv_aload_n hx hb dX1_list_0 rfl (lv_at hl 0 rfl) ?_
    refine lv_iload_n hx hb dX1_list_1 rfl (lv_at hl 1 rfl) ?_
    refine y_callr (x := nI 0) G h (mY_noVotes0 l D ad cI c t v S K xv (by omega)) kY_noVotes rfl ⟨Nat.le_of_ble_eq_true rfl, Nat.le_of_ble_eq_true rfl, Nat.le_refl _, Nat.le_refl _⟩ hl.1 rfl (Nat.le_of_ble_eq_true rfl) dX1_list_2 (fun H locs h => ?_)
    refine n_if_eq (tgt := 10) hx hb dX1_list_5 (by decide) (by omega) (fun c5 => ?_) (fun c5 => absurd c5 (by omega))
    refine lv_aload_n hx hb dX1_list_10 rfl (lv_at hl 0 rfl) ?_
    refine y_getC G h dX1_list_11 ?_
    refine lv_bipush (v := (nI 6)) hx hb dX1_list_14 (by decide) ?_
    refine n_icmp_ne (tgt := 22) hx hb dX1_list_16 (by decide) (by omega) (by omega) (fun c16 => ?_) (fun c16 => ?_)
    · skip
      refine lv_aload_n hx hb dX1_list_22 rfl (lv_at hl 0 rfl) ?_
      refine y_getV G h dX1_list_23 ?_
      refine lv_aload_n hx hb dX1_list_26 rfl (lv_at hl 0 rfl) ?_
      refine y_getC G h dX1_list_27 ?_
      refine lv_iload_n hx hb dX1_list_30 rfl (lv_at hl 1 rfl) ?_
      refine y_stV G h (by omega) dX1_list_31 (fun H locs h => ?_)
      refine lv_aload_n hx hb dX1_list_32 rfl (lv_at hl 0 rfl) ?_
      refine lv_dup hx hb dX1_list_33 rfl ?_
      refine y_getC G h dX1_list_34 ?_
      refine lv_iconst (v := (nI 1)) hx hb dX1_list_37 (by decide) ?_
      refine n_iadd hx hb dX1_list_38 ?_
      refine y_putC G h dX1_list_39 (fun H locs h => ?_)
      refine lv_aload_n hx hb dX1_list_42 rfl (lv_at hl 0 rfl) ?_
      refine y_getC G h dX1_list_43 ?_
      refine lv_iconst (v := (nI 1)) hx hb dX1_list_46 (by decide) ?_
      refine n_isub hx hb dX1_list_47 (by omega) ?_
      exact hret _ _ _ _ _ (c + 1, t, va_up v c xv, S, K) _ h (pubY_i (by simp only [sp_list, ha, if_neg c16, Nat.add_sub_cancel])) hrt rfl dX1_list_48
    · skip
      refine lv_bipush (v := (-2)) hx hb dX1_list_19 (by decide) ?_
      exact hret _ _ _ _ _ (c, t, v, S, K) _ h (pubY_i (by simp only [sp_list, ha, if_pos c16])) hrt rfl dX1_list_21
set_option maxHeartbeats 4000000 in
theorem mY_vote (l : Launch) (D : va_G) (ad : Nat → Nat) (cI : ClassId) (c t : Nat) (v : Nat → Nat) (S K : Nat → Int32) (a b : Int32) (hc : c ≤ 6) (ht : t ≤ 30) (hv : ∀ j, j < c → v j ≤ 999) : Mi l D (tyY cI) (WY ad cI) yX1_vote cX1_vote 4 (some .int) 1 21 (ad 0) [.int a, .int b] (c, t, v, S, K) (pubY (sp_vote c t v a b)) := by
  refine Mi.of (by decide) (Nat.le_of_ble_eq_true rfl) ?_
  intro p e s m args below meth cd A ls Q G hrt h hl hret
  have G : GY D A cI p s m args cd cX1_vote 4 := G
  have h : HY D A ad cI s.heap c t v S K s.heap [] := h
  have hl : lv_has ls 4 [(0, .ref (ad 0)), (1, .int a), (2, .int b)] := hl
  have hx := G.1.1
  have hb := G.1.2.1
  have hv3 : ∀ j, j < c → v j ≤ 2999 := fun j hj => by have := hv j hj; omega
  have hal : sumTo v c ≤ 5994 := by have := sumTo_le hv; have h2 : c * 999 ≤ 6 * 999 := Nat.mul_le_mul_right _ hc; omega
  cases ha : ix c a with
  | none =>
    refine lv_aload_n hx hb dX1_vote_0 rfl (lv_at hl 0 rfl) ?_
    refine lv_iload_n hx hb dX1_vote_1 rfl (lv_at hl 1 rfl) ?_
    refine y_callr (x := nI 1) G h (mY_noList1 l D ad cI c t v S K a hc ha) kY_noList rfl ⟨Nat.le_of_ble_eq_true rfl, Nat.le_of_ble_eq_true rfl, Nat.le_refl _, Nat.le_refl _⟩ hl.1 rfl (Nat.le_of_ble_eq_true rfl) dX1_vote_2 (fun H locs h => ?_)
    refine n_if_ne (tgt := 16) hx hb dX1_vote_5 (by decide) (by omega) (fun c5 => ?_) (fun c5 => absurd c5 (by omega))
    refine lv_iconst (v := (-1)) hx hb dX1_vote_16 (by decide) ?_
    exact hret _ _ _ _ _ (c, t, v, S, K) _ h (pubY_i (by simp only [sp_vote, ha])) hrt rfl dX1_vote_17
  | some i =>
    obtain ⟨hi, rfl⟩ := ix_some (by omega) ha
    cases hb2 : ix 1000 b with
    | none =>
      refine lv_aload_n hx hb dX1_vote_0 rfl (lv_at hl 0 rfl) ?_
      refine lv_iload_n hx hb dX1_vote_1 rfl (lv_at hl 1 rfl) ?_
      refine y_callr (x := nI 0) G h (mY_noList0 l D ad cI c t v S K i hc (by omega)) kY_noList rfl ⟨Nat.le_of_ble_eq_true rfl, Nat.le_of_ble_eq_true rfl, Nat.le_refl _, Nat.le_refl _⟩ hl.1 rfl (Nat.le_of_ble_eq_true rfl) dX1_vote_2 (fun H locs h => ?_)
      refine n_if_ne (tgt := 16) hx hb dX1_vote_5 (by decide) (by omega) (fun c5 => absurd c5 (by omega)) (fun c5 => ?_)
      refine lv_aload_n hx hb dX1_vote_8 rfl (lv_at hl 0 rfl) ?_
      refine lv_iload_n hx hb dX1_vote_9 rfl (lv_at hl 2 rfl) ?_
      refine y_callr (x := nI 1) G h (mY_noVotes1 l D ad cI c t v S K b hb2) kY_noVotes rfl ⟨Nat.le_of_ble_eq_true rfl, Nat.le_of_ble_eq_true rfl, Nat.le_refl _, Nat.le_refl _⟩ hl.1 rfl (Nat.le_of_ble_eq_true rfl) dX1_vote_10 (fun H locs h => ?_)
      refine n_if_eq (tgt := 18) hx hb dX1_vote_13 (by decide) (by omega) (fun c13 => absurd c13 (by omega)) (fun c13 => ?_)
      refine lv_iconst (v := (-1)) hx hb dX1_vote_16 (by decide) ?_
      exact hret _ _ _ _ _ (c, t, v, S, K) _ h (pubY_i (by simp only [sp_vote, ha, hb2])) hrt rfl dX1_vote_17
    | some xv =>
      obtain ⟨hxv, rfl⟩ := ix_some (by decide) hb2
      refine lv_aload_n hx hb dX1_vote_0 rfl (lv_at hl 0 rfl) ?_
      refine lv_iload_n hx hb dX1_vote_1 rfl (lv_at hl 1 rfl) ?_
      refine y_callr (x := nI 0) G h (mY_noList0 l D ad cI c t v S K i hc (by omega)) kY_noList rfl ⟨Nat.le_of_ble_eq_true rfl, Nat.le_of_ble_eq_true rfl, Nat.le_refl _, Nat.le_refl _⟩ hl.1 rfl (Nat.le_of_ble_eq_true rfl) dX1_vote_2 (fun H locs h => ?_)
      refine n_if_ne (tgt := 16) hx hb dX1_vote_5 (by decide) (by omega) (fun c5 => absurd c5 (by omega)) (fun c5 => ?_)
      refine lv_aload_n hx hb dX1_vote_8 rfl (lv_at hl 0 rfl) ?_
      refine lv_iload_n hx hb dX1_vote_9 rfl (lv_at hl 2 rfl) ?_
      refine y_callr (x := nI 0) G h (mY_noVotes0 l D ad cI c t v S K xv (by omega)) kY_noVotes rfl ⟨Nat.le_of_ble_eq_true rfl, Nat.le_of_ble_eq_true rfl, Nat.le_refl _, Nat.le_refl _⟩ hl.1 rfl (Nat.le_of_ble_eq_true rfl) dX1_vote_10 (fun H locs h => ?_)
      refine n_if_eq (tgt := 18) hx hb dX1_vote_13 (by decide) (by omega) (fun c13 => ?_) (fun c13 => absurd c13 (by omega))
      refine lv_aload_n hx hb dX1_vote_18 rfl (lv_at hl 0 rfl) ?_
      refine y_getV G h dX1_vote_19 ?_
      refine lv_iload_n hx hb dX1_vote_22 rfl (lv_at hl 1 rfl) ?_
      refine y_ldV G h (by omega) dX1_vote_23 ?_
      refine lv_istore_n (lv' := [(3, .int (nI (v i))), (0, .ref (ad 0)), (1, .int (nI i)), (2, .int (nI xv))]) hx hb dX1_vote_24 rfl hl (by decide) rfl (fun ls hl => ?_)
      refine lv_aload_n hx hb dX1_vote_25 rfl (lv_at hl 1 rfl) ?_
      refine y_getV G h dX1_vote_26 ?_
      refine lv_iload_n hx hb dX1_vote_29 rfl (lv_at hl 2 rfl) ?_
      refine lv_iload_n hx hb dX1_vote_30 rfl (lv_at hl 3 rfl) ?_
      refine y_stV G h (by omega) dX1_vote_31 (fun H locs h => ?_)
      refine lv_iload_n hx hb dX1_vote_32 rfl (lv_at hl 0 rfl) ?_
      exact hret _ _ _ _ _ (c, t, va_up v i xv, S, K) _ h (pubY_i (by simp only [sp_vote, ha, hb2])) hrt rfl dX1_vote_33
set_option maxHeartbeats 4000000 in
theorem mY_join (l : Launch) (D : va_G) (ad : Nat → Nat) (cI : ClassId) (c t : Nat) (v : Nat → Nat) (S K : Nat → Int32) (a b : Int32) (hc : c ≤ 6) (ht : t ≤ 30) (hv : ∀ j, j < c → v j ≤ 999) : Mi l D (tyY cI) (WY ad cI) yX1_join cX1_join 4 (some .int) 1 21 (ad 0) [.int a, .int b] (c, t, v, S, K) (pubY (sp_join c t v a b)) := by
  refine Mi.of (by decide) (Nat.le_of_ble_eq_true rfl) ?_
  intro p e s m args below meth cd A ls Q G hrt h hl hret
  have G : GY D A cI p s m args cd cX1_join 4 := G
  have h : HY D A ad cI s.heap c t v S K s.heap [] := h
  have hl : lv_has ls 4 [(0, .ref (ad 0)), (1, .int a), (2, .int b)] := hl
  have hx := G.1.1
  have hb := G.1.2.1
  have hv3 : ∀ j, j < c → v j ≤ 2999 := fun j hj => by have := hv j hj; omega
  have hal : sumTo v c ≤ 5994 := by have := sumTo_le hv; have h2 : c * 999 ≤ 6 * 999 := Nat.mul_le_mul_right _ hc; omega
  cases ha : ix c a with
  | none =>
    refine lv_aload_n hx hb dX1_join_0 rfl (lv_at hl 0 rfl) ?_
    refine lv_iload_n hx hb dX1_join_1 rfl (lv_at hl 1 rfl) ?_
    refine y_callr (x := nI 1) G h (mY_noList1 l D ad cI c t v S K a hc ha) kY_noList rfl ⟨Nat.le_of_ble_eq_true rfl, Nat.le_of_ble_eq_true rfl, Nat.le_refl _, Nat.le_refl _⟩ hl.1 rfl (Nat.le_of_ble_eq_true rfl) dX1_join_2 (fun H locs h => ?_)
    refine n_if_ne (tgt := 21) hx hb dX1_join_5 (by decide) (by omega) (fun c5 => ?_) (fun c5 => absurd c5 (by omega))
    refine lv_iconst (v := (-1)) hx hb dX1_join_21 (by decide) ?_
    exact hret _ _ _ _ _ (c, t, v, S, K) _ h (pubY_i (by simp only [sp_join, ha])) hrt rfl dX1_join_22
  | some i =>
    obtain ⟨hi, rfl⟩ := ix_some (by omega) ha
    cases hb2 : ix c b with
    | none =>
      refine lv_aload_n hx hb dX1_join_0 rfl (lv_at hl 0 rfl) ?_
      refine lv_iload_n hx hb dX1_join_1 rfl (lv_at hl 1 rfl) ?_
      refine y_callr (x := nI 0) G h (mY_noList0 l D ad cI c t v S K i hc (by omega)) kY_noList rfl ⟨Nat.le_of_ble_eq_true rfl, Nat.le_of_ble_eq_true rfl, Nat.le_refl _, Nat.le_refl _⟩ hl.1 rfl (Nat.le_of_ble_eq_true rfl) dX1_join_2 (fun H locs h => ?_)
      refine n_if_ne (tgt := 21) hx hb dX1_join_5 (by decide) (by omega) (fun c5 => absurd c5 (by omega)) (fun c5 => ?_)
      refine lv_aload_n hx hb dX1_join_8 rfl (lv_at hl 0 rfl) ?_
      refine lv_iload_n hx hb dX1_join_9 rfl (lv_at hl 2 rfl) ?_
      refine y_callr (x := nI 1) G h (mY_noList1 l D ad cI c t v S K b hc hb2) kY_noList rfl ⟨Nat.le_of_ble_eq_true rfl, Nat.le_of_ble_eq_true rfl, Nat.le_refl _, Nat.le_refl _⟩ hl.1 rfl (Nat.le_of_ble_eq_true rfl) dX1_join_10 (fun H locs h => ?_)
      refine n_if_ne (tgt := 21) hx hb dX1_join_13 (by decide) (by omega) (fun c13 => ?_) (fun c13 => absurd c13 (by omega))
      refine lv_iconst (v := (-1)) hx hb dX1_join_21 (by decide) ?_
      exact hret _ _ _ _ _ (c, t, v, S, K) _ h (pubY_i (by simp only [sp_join, ha, hb2])) hrt rfl dX1_join_22
    | some j =>
      obtain ⟨hj, rfl⟩ := ix_some (by omega) hb2
      refine lv_aload_n hx hb dX1_join_0 rfl (lv_at hl 0 rfl) ?_
      refine lv_iload_n hx hb dX1_join_1 rfl (lv_at hl 1 rfl) ?_
      refine y_callr (x := nI 0) G h (mY_noList0 l D ad cI c t v S K i hc (by omega)) kY_noList rfl ⟨Nat.le_of_ble_eq_true rfl, Nat.le_of_ble_eq_true rfl, Nat.le_refl _, Nat.le_refl _⟩ hl.1 rfl (Nat.le_of_ble_eq_true rfl) dX1_join_2 (fun H locs h => ?_)
      refine n_if_ne (tgt := 21) hx hb dX1_join_5 (by decide) (by omega) (fun c5 => absurd c5 (by omega)) (fun c5 => ?_)
      refine lv_aload_n hx hb dX1_join_8 rfl (lv_at hl 0 rfl) ?_
      refine lv_iload_n hx hb dX1_join_9 rfl (lv_at hl 2 rfl) ?_
      refine y_callr (x := nI 0) G h (mY_noList0 l D ad cI c t v S K j hc (by omega)) kY_noList rfl ⟨Nat.le_of_ble_eq_true rfl, Nat.le_of_ble_eq_true rfl, Nat.le_refl _, Nat.le_refl _⟩ hl.1 rfl (Nat.le_of_ble_eq_true rfl) dX1_join_10 (fun H locs h => ?_)
      refine n_if_ne (tgt := 21) hx hb dX1_join_13 (by decide) (by omega) (fun c13 => absurd c13 (by omega)) (fun c13 => ?_)
      refine lv_iload_n hx hb dX1_join_16 rfl (lv_at hl 1 rfl) ?_
      refine lv_iload_n hx hb dX1_join_17 rfl (lv_at hl 2 rfl) ?_
      refine n_icmp_ne (tgt := 23) hx hb dX1_join_18 (by decide) (by omega) (by omega) (fun c18 => ?_) (fun c18 => ?_)
      · skip
        refine lv_aload_n hx hb dX1_join_23 rfl (lv_at hl 0 rfl) ?_
        refine y_getV G h dX1_join_24 ?_
        refine lv_iload_n hx hb dX1_join_27 rfl (lv_at hl 1 rfl) ?_
        refine y_ldV G h (by omega) dX1_join_28 ?_
        refine lv_aload_n hx hb dX1_join_29 rfl (lv_at hl 0 rfl) ?_
        refine y_getV G h dX1_join_30 ?_
        refine lv_iload_n hx hb dX1_join_33 rfl (lv_at hl 2 rfl) ?_
        refine y_ldV G h (by omega) dX1_join_34 ?_
        refine n_iadd hx hb dX1_join_35 ?_
        refine lv_istore_n (lv' := [(3, .int (nI ((v i) + (v j)))), (0, .ref (ad 0)), (1, .int (nI i)), (2, .int (nI j))]) hx hb dX1_join_36 rfl hl (by decide) rfl (fun ls hl => ?_)
        refine lv_aload_n hx hb dX1_join_37 rfl (lv_at hl 1 rfl) ?_
        refine y_getV G h dX1_join_38 ?_
        refine lv_iload_n hx hb dX1_join_41 rfl (lv_at hl 2 rfl) ?_
        refine lv_iload_n hx hb dX1_join_42 rfl (lv_at hl 0 rfl) ?_
        refine lv_sipush (v := (nI 999)) hx hb dX1_join_43 (by decide) ?_
        refine n_icmp_le (tgt := 55) hx hb dX1_join_46 (by decide) (by have q1 := hv i hi; have q2 := hv j hj; omega) (by omega) (fun c46 => ?_) (fun c46 => ?_)
        · skip
          refine lv_iload_n hx hb dX1_join_55 rfl (lv_at hl 0 rfl) ?_
          refine y_stV G h (by omega) dX1_join_56 (fun H locs h => ?_)
          refine lv_aload_n hx hb dX1_join_57 rfl (lv_at hl 1 rfl) ?_
          refine y_getV G h dX1_join_58 ?_
          refine lv_iload_n hx hb dX1_join_61 rfl (lv_at hl 3 rfl) ?_
          refine lv_iconst (v := (nI 0)) hx hb dX1_join_62 (by decide) ?_
          refine y_stV G h (by omega) dX1_join_63 (fun H locs h => ?_)
          refine lv_aload_n hx hb dX1_join_64 rfl (lv_at hl 1 rfl) ?_
          refine y_getV G h dX1_join_65 ?_
          refine lv_iload_n hx hb dX1_join_68 rfl (lv_at hl 2 rfl) ?_
          refine y_ldV G h (by omega) dX1_join_69 ?_
          exact hret _ _ _ _ _ (c, t, va_up (va_up v i ((v i) + (v j))) j 0, S, K) _ h (pubY_i (by rw [vu_ne c18, vu_eq]; simp only [sp_join, ha, hb2, if_neg c18, if_neg (show ¬ 999 < v i + v j by omega)])) hrt rfl dX1_join_70
        · skip
          refine lv_sipush (v := (nI 999)) hx hb dX1_join_49 (by decide) ?_
          refine lv_goto (tgt := 56) hx hb dX1_join_52 (by decide) ?_
          refine y_stV G h (by omega) dX1_join_56 (fun H locs h => ?_)
          refine lv_aload_n hx hb dX1_join_57 rfl (lv_at hl 1 rfl) ?_
          refine y_getV G h dX1_join_58 ?_
          refine lv_iload_n hx hb dX1_join_61 rfl (lv_at hl 3 rfl) ?_
          refine lv_iconst (v := (nI 0)) hx hb dX1_join_62 (by decide) ?_
          refine y_stV G h (by omega) dX1_join_63 (fun H locs h => ?_)
          refine lv_aload_n hx hb dX1_join_64 rfl (lv_at hl 1 rfl) ?_
          refine y_getV G h dX1_join_65 ?_
          refine lv_iload_n hx hb dX1_join_68 rfl (lv_at hl 2 rfl) ?_
          refine y_ldV G h (by omega) dX1_join_69 ?_
          exact hret _ _ _ _ _ (c, t, va_up (va_up v i 999) j 0, S, K) _ h (pubY_i (by rw [vu_ne c18, vu_eq]; simp only [sp_join, ha, hb2, if_neg c18, if_pos c46])) hrt rfl dX1_join_70
      · skip
        refine lv_iconst (v := (-1)) hx hb dX1_join_21 (by decide) ?_
        exact hret _ _ _ _ _ (c, t, v, S, K) _ h (pubY_i (by simp only [sp_join, ha, hb2, if_pos c18])) hrt rfl dX1_join_22
set_option maxHeartbeats 4000000 in
theorem mY_seats (l : Launch) (D : va_G) (ad : Nat → Nat) (cI : ClassId) (c t : Nat) (v : Nat → Nat) (S K : Nat → Int32) (a : Int32) (hc : c ≤ 6) (ht : t ≤ 30) (hv : ∀ j, j < c → v j ≤ 999) : Mi l D (tyY cI) (WY ad cI) yX1_seats cX1_seats 3 (some .int) 0 0 (ad 0) [.int a] (c, t, v, S, K) (pubY (sp_seats c t v a)) := by
  refine Mi.of (by decide) (Nat.le_of_ble_eq_true rfl) ?_
  intro p e s m args below meth cd A ls Q G hrt h hl hret
  have G : GY D A cI p s m args cd cX1_seats 3 := G
  have h : HY D A ad cI s.heap c t v S K s.heap [] := h
  have hl : lv_has ls 3 [(0, .ref (ad 0)), (1, .int a)] := hl
  have hx := G.1.1
  have hb := G.1.2.1
  have hv3 : ∀ j, j < c → v j ≤ 2999 := fun j hj => by have := hv j hj; omega
  have hal : sumTo v c ≤ 5994 := by have := sumTo_le hv; have h2 : c * 999 ≤ 6 * 999 := Nat.mul_le_mul_right _ hc; omega
  cases ha : ix 31 a with
  | none =>
    refine lv_iload_n hx hb dX1_seats_0 rfl (lv_at hl 1 rfl) ?_
    refine lv_if_lt (tgt := 10) hx hb dX1_seats_1 (by decide) (fun c1 => ?_) (fun c1 => ?_)
    · skip
      refine lv_iconst (v := (-1)) hx hb dX1_seats_10 (by decide) ?_
      exact hret _ _ _ _ _ (c, t, v, S, K) _ h (pubY_i (by simp only [sp_seats, ha])) hrt rfl dX1_seats_11
    · skip
      refine lv_iload_n hx hb dX1_seats_4 rfl (lv_at hl 1 rfl) ?_
      refine lv_bipush (v := (nI 30)) hx hb dX1_seats_5 (by decide) ?_
      refine lv_icmp_le (tgt := 12) hx hb dX1_seats_7 (by decide) (fun c7 => absurd ha (ix_dead c1 c7)) (fun c7 => ?_)
      refine lv_iconst (v := (-1)) hx hb dX1_seats_10 (by decide) ?_
      exact hret _ _ _ _ _ (c, t, v, S, K) _ h (pubY_i (by simp only [sp_seats, ha])) hrt rfl dX1_seats_11
  | some n =>
    obtain ⟨hn, rfl⟩ := ix_some (by decide) ha
    refine lv_iload_n hx hb dX1_seats_0 rfl (lv_at hl 1 rfl) ?_
    refine lv_if_lt (tgt := 10) hx hb dX1_seats_1 (by decide) (fun c1 => absurd c1 (nI_pos (by omega))) (fun c1 => ?_)
    refine lv_iload_n hx hb dX1_seats_4 rfl (lv_at hl 1 rfl) ?_
    refine lv_bipush (v := (nI 30)) hx hb dX1_seats_5 (by decide) ?_
    refine n_icmp_le (tgt := 12) hx hb dX1_seats_7 (by decide) (by omega) (by omega) (fun c7 => ?_) (fun c7 => absurd c7 (by omega))
    refine lv_aload_n hx hb dX1_seats_12 rfl (lv_at hl 0 rfl) ?_
    refine y_getT G h dX1_seats_13 ?_
    refine lv_istore_n (lv' := [(2, .int (nI t)), (0, .ref (ad 0)), (1, .int (nI n))]) hx hb dX1_seats_16 rfl hl (by decide) rfl (fun ls hl => ?_)
    refine lv_aload_n hx hb dX1_seats_17 rfl (lv_at hl 1 rfl) ?_
    refine lv_iload_n hx hb dX1_seats_18 rfl (lv_at hl 2 rfl) ?_
    refine y_putT G h dX1_seats_19 (fun H locs h => ?_)
    refine lv_iload_n hx hb dX1_seats_22 rfl (lv_at hl 0 rfl) ?_
    exact hret _ _ _ _ _ (c, n, v, S, K) _ h (pubY_i (by simp only [sp_seats, ha])) hrt rfl dX1_seats_23
set_option maxHeartbeats 4000000 in
theorem mY_lists (l : Launch) (D : va_G) (ad : Nat → Nat) (cI : ClassId) (c t : Nat) (v : Nat → Nat) (S K : Nat → Int32) (hc : c ≤ 6) (ht : t ≤ 30) (hv : ∀ j, j < c → v j ≤ 999) : Mi l D (tyY cI) (WY ad cI) yX1_lists cX1_lists 1 (some .int) 0 0 (ad 0) [] (c, t, v, S, K) (pubY (sp_lists c t v)) := by
  refine Mi.of (by decide) (Nat.le_of_ble_eq_true rfl) ?_
  intro p e s m args below meth cd A ls Q G hrt h hl hret
  have G : GY D A cI p s m args cd cX1_lists 1 := G
  have h : HY D A ad cI s.heap c t v S K s.heap [] := h
  have hl : lv_has ls 1 [(0, .ref (ad 0))] := hl
  have hx := G.1.1
  have hb := G.1.2.1
  have hv3 : ∀ j, j < c → v j ≤ 2999 := fun j hj => by have := hv j hj; omega
  have hal : sumTo v c ≤ 5994 := by have := sumTo_le hv; have h2 : c * 999 ≤ 6 * 999 := Nat.mul_le_mul_right _ hc; omega
  refine lv_aload_n hx hb dX1_lists_0 rfl (lv_at hl 0 rfl) ?_
  refine y_getC G h dX1_lists_1 ?_
  exact hret _ _ _ _ _ (c, t, v, S, K) _ h (pubY_i (by rfl)) hrt rfl dX1_lists_4
set_option maxHeartbeats 4000000 in
theorem mYp_votes (l : Launch) (D : va_G) (ad : Nat → Nat) (cI : ClassId) (c t : Nat) (v : Nat → Nat) (S K : Nat → Int32) (hc : c ≤ 6) (ht : t ≤ 30) (hv : ∀ j, j < c → v j ≤ 999) : Mi l D (tyY cI) (WY ad cI) yX1_votes cX1_votes 3 (some .int) 0 0 (ad 0) [] (c, t, v, S, K) (pubY (sp_votes c t v)) := by
  refine Mi.of (by decide) (Nat.le_of_ble_eq_true rfl) ?_
  intro p e s m args below meth cd A ls Q G hrt h hl hret
  have G : GY D A cI p s m args cd cX1_votes 3 := G
  have h : HY D A ad cI s.heap c t v S K s.heap [] := h
  have hl : lv_has ls 3 [(0, .ref (ad 0))] := hl
  have hx := G.1.1
  have hb := G.1.2.1
  refine lv_iconst (v := (nI 0)) hx hb dX1_votes_0 (by decide) ?_
  refine lv_istore_n (lv' := [(1, .int (nI 0)), (0, .ref (ad 0))]) hx hb dX1_votes_1 rfl hl (by decide) rfl (fun ls hl => ?_)
  refine lv_iconst (v := (nI 0)) hx hb dX1_votes_2 (by decide) ?_
  refine lv_istore_n (lv' := [(2, .int (nI 0)), (1, .int (nI 0)), (0, .ref (ad 0))]) hx hb dX1_votes_3 rfl hl (by decide) rfl (fun ls hl => ?_)
  have L4 : ∀ (n4 : Nat) (i : Nat), c - i < n4 → (i ≤ c) → ∀ (H : Heap) (locs : List Loc), HY D A ad cI s.heap c t v S K H locs → ∀ (ls : Array Slot), lv_has ls 3 [(0, .ref (ad 0)), (1, .int (nI (sumTo v i))), (2, .int (nI i))] → W p l e (rmm 0 0) s m args below meth cd H locs 0 0 Q (F0 m 4 ls []) := by
    intro n4
    induction n4 with
    | zero =>
      intro i hm
      exact absurd hm (Nat.not_lt_zero _)
    | succ n4 ih4 =>
      intro i hm4 hi H locs h ls hl
      refine lv_iload_n hx hb dX1_votes_4 rfl (lv_at hl 2 rfl) ?_
      refine lv_aload_n hx hb dX1_votes_5 rfl (lv_at hl 0 rfl) ?_
      refine y_getC G h dX1_votes_6 ?_
      refine n_icmp_ge (tgt := 27) hx hb dX1_votes_9 (by decide) (by omega) (by omega) (fun c9 => ?_) (fun c9 => ?_)
      · skip
        refine lv_iload_n hx hb dX1_votes_27 rfl (lv_at hl 1 rfl) ?_
        exact hret _ _ _ _ _ (c, t, v, S, K) _ h (pubY_i (by rw [show i = c by omega]; rfl)) hrt rfl dX1_votes_28
      · skip
        refine lv_iload_n hx hb dX1_votes_12 rfl (lv_at hl 1 rfl) ?_
        refine lv_aload_n hx hb dX1_votes_13 rfl (lv_at hl 0 rfl) ?_
        refine y_getV G h dX1_votes_14 ?_
        refine lv_iload_n hx hb dX1_votes_17 rfl (lv_at hl 2 rfl) ?_
        refine y_ldV G h (by omega) dX1_votes_18 ?_
        refine n_iadd hx hb dX1_votes_19 ?_
        refine lv_istore_n (lv' := [(1, .int (nI ((sumTo v i) + (v i)))), (0, .ref (ad 0)), (2, .int (nI i))]) hx hb dX1_votes_20 rfl hl (by decide) rfl (fun ls hl => ?_)
        refine lv_iinc (v := nI (i + 1)) (lv' := [(2, .int (nI (i + 1))), (1, .int (nI ((sumTo v i) + (v i)))), (0, .ref (ad 0))]) hx hb dX1_votes_21 hl (k := 2) rfl (inc1 _) (by decide) rfl (fun ls hl => ?_)
        refine lv_goto (tgt := 4) hx hb dX1_votes_24 (by decide) ?_
        exact ih4 (i + 1) (by omega) (by omega) _ _ h _ (lv_sub hl [2, 1, 0] rfl)
  exact L4 _ 0 (Nat.lt_succ_self _) (by omega) _ _ h _ (lv_sub hl [2, 1, 0] rfl)
set_option maxHeartbeats 4000000 in
theorem mY_bar (l : Launch) (D : va_G) (ad : Nat → Nat) (cI : ClassId) (c t : Nat) (v : Nat → Nat) (S K : Nat → Int32) (a : Int32) (hc : c ≤ 6) (ht : t ≤ 30) (hv : ∀ j, j < c → v j ≤ 999) : Mi l D (tyY cI) (WY ad cI) yX1_bar cX1_bar 5 (some .int) 1 22 (ad 0) [.int a] (c, t, v, S, K) (pubY (sp_bar c t v a)) := by
  refine Mi.of (by decide) (Nat.le_of_ble_eq_true rfl) ?_
  intro p e s m args below meth cd A ls Q G hrt h hl hret
  have G : GY D A cI p s m args cd cX1_bar 5 := G
  have h : HY D A ad cI s.heap c t v S K s.heap [] := h
  have hl : lv_has ls 5 [(0, .ref (ad 0)), (1, .int a)] := hl
  have hx := G.1.1
  have hb := G.1.2.1
  have hv3 : ∀ j, j < c → v j ≤ 2999 := fun j hj => by have := hv j hj; omega
  have hal : sumTo v c ≤ 5994 := by have := sumTo_le hv; have h2 : c * 999 ≤ 6 * 999 := Nat.mul_le_mul_right _ hc; omega
  cases ha : ix 101 a with
  | none =>
    refine lv_iload_n hx hb dX1_bar_0 rfl (lv_at hl 1 rfl) ?_
    refine lv_if_lt (tgt := 10) hx hb dX1_bar_1 (by decide) (fun c1 => ?_) (fun c1 => ?_)
    · skip
      refine lv_iconst (v := (-1)) hx hb dX1_bar_10 (by decide) ?_
      exact hret _ _ _ _ _ (c, t, v, S, K) _ h (pubY_i (by simp only [sp_bar, ha])) hrt rfl dX1_bar_11
    · skip
      refine lv_iload_n hx hb dX1_bar_4 rfl (lv_at hl 1 rfl) ?_
      refine lv_bipush (v := (nI 100)) hx hb dX1_bar_5 (by decide) ?_
      refine lv_icmp_le (tgt := 12) hx hb dX1_bar_7 (by decide) (fun c7 => absurd ha (ix_dead c1 c7)) (fun c7 => ?_)
      refine lv_iconst (v := (-1)) hx hb dX1_bar_10 (by decide) ?_
      exact hret _ _ _ _ _ (c, t, v, S, K) _ h (pubY_i (by simp only [sp_bar, ha])) hrt rfl dX1_bar_11
  | some pp =>
    obtain ⟨hpp, rfl⟩ := ix_some (by decide) ha
    refine lv_iload_n hx hb dX1_bar_0 rfl (lv_at hl 1 rfl) ?_
    refine lv_if_lt (tgt := 10) hx hb dX1_bar_1 (by decide) (fun c1 => absurd c1 (nI_pos (by omega))) (fun c1 => ?_)
    refine lv_iload_n hx hb dX1_bar_4 rfl (lv_at hl 1 rfl) ?_
    refine lv_bipush (v := (nI 100)) hx hb dX1_bar_5 (by decide) ?_
    refine n_icmp_le (tgt := 12) hx hb dX1_bar_7 (by decide) (by omega) (by omega) (fun c7 => ?_) (fun c7 => absurd c7 (by omega))
    have b1 := Nat.mul_le_mul (show pp ≤ 100 by omega) hal
    refine lv_aload_n hx hb dX1_bar_12 rfl (lv_at hl 0 rfl) ?_
    refine y_callr (x := (nI (sumTo v c))) G h (mY_votes l D ad cI c t v S K hc) kY_votes rfl ⟨Nat.le_of_ble_eq_true rfl, Nat.le_of_ble_eq_true rfl, Nat.le_refl _, Nat.le_refl _⟩ hl.1 rfl (Nat.le_of_ble_eq_true rfl) dX1_bar_13 (fun H locs h => ?_)
    refine lv_istore_n (lv' := [(2, .int (nI (sumTo v c))), (0, .ref (ad 0)), (1, .int (nI pp))]) hx hb dX1_bar_16 rfl hl (by decide) rfl (fun ls hl => ?_)
    refine lv_iconst (v := (nI 0)) hx hb dX1_bar_17 (by decide) ?_
    refine lv_istore_n (lv' := [(3, .int (nI 0)), (2, .int (nI (sumTo v c))), (0, .ref (ad 0)), (1, .int (nI pp))]) hx hb dX1_bar_18 rfl hl (by decide) rfl (fun ls hl => ?_)
    refine lv_iconst (v := (nI 0)) hx hb dX1_bar_19 (by decide) ?_
    refine lv_istore (lv' := [(4, .int (nI 0)), (3, .int (nI 0)), (2, .int (nI (sumTo v c))), (0, .ref (ad 0)), (1, .int (nI pp))]) hx hb dX1_bar_20 hl (by decide) rfl (fun ls hl => ?_)
    have h := y_cV (barV_0 (p := pp) (all := sumTo v c) (v := v)).symm h
    have L22 : ∀ (n22 : Nat) (i : Nat) (lf : Nat), c - i < n22 → (i ≤ c) → (lf = cntP (barV pp (sumTo v c) v c) i) → ∀ (H : Heap) (locs : List Loc), HY D A ad cI s.heap c t (barV pp (sumTo v c) v i) S K H locs → ∀ (ls : Array Slot), lv_has ls 5 [(0, .ref (ad 0)), (1, .int (nI pp)), (2, .int (nI (sumTo v c))), (3, .int (nI lf)), (4, .int (nI i))] → W p l e (rmm 1 22) s m args below meth cd H locs 0 0 Q (F0 m 22 ls []) := by
      intro n22
      induction n22 with
      | zero =>
        intro i lf hm
        exact absurd hm (Nat.not_lt_zero _)
      | succ n22 ih22 =>
        intro i lf hm22 hi hlf H locs h ls hl
        refine lv_iload hx hb dX1_bar_22 (lv_at hl 4 rfl) ?_
        refine lv_aload_n hx hb dX1_bar_24 rfl (lv_at hl 0 rfl) ?_
        refine y_getC G h dX1_bar_25 ?_
        refine n_icmp_ge (tgt := 74) hx hb dX1_bar_28 (by decide) (by omega) (by omega) (fun c28 => ?_) (fun c28 => ?_)
        · skip
          refine lv_iload_n hx hb dX1_bar_74 rfl (lv_at hl 3 rfl) ?_
          exact hret _ _ _ _ _ (c, t, barV pp (sumTo v c) v i, S, K) _ h (pubY_i (by rw [hlf, show i = c by omega]; simp only [sp_bar, ha])) hrt rfl dX1_bar_75
        · skip
          refine lv_bipush (v := (nI 100)) hx hb dX1_bar_31 (by decide) ?_
          refine lv_aload_n hx hb dX1_bar_33 rfl (lv_at hl 0 rfl) ?_
          refine y_getV G h dX1_bar_34 ?_
          refine lv_iload hx hb dX1_bar_37 (lv_at hl 4 rfl) ?_
          refine y_ldV G h (by omega) dX1_bar_39 ?_
          refine n_toe (congrArg nI barV_at) ?_
          refine n_imul hx hb dX1_bar_40 ?_
          refine lv_iload_n hx hb dX1_bar_41 rfl (lv_at hl 1 rfl) ?_
          refine lv_iload_n hx hb dX1_bar_42 rfl (lv_at hl 2 rfl) ?_
          refine n_imul hx hb dX1_bar_43 ?_
          refine n_icmp_ge (tgt := 55) hx hb dX1_bar_44 (by decide) (by have q1 := hv i (by omega); omega) (by omega) (fun c44 => ?_) (fun c44 => ?_)
          · skip
            have h := y_cV (barV_keep (p := pp) (all := sumTo v c) (v := v) c44) h
            refine lv_aload_n hx hb dX1_bar_55 rfl (lv_at hl 0 rfl) ?_
            refine y_getV G h dX1_bar_56 ?_
            refine lv_iload hx hb dX1_bar_59 (lv_at hl 4 rfl) ?_
            refine y_ldV G h (by omega) dX1_bar_61 ?_
            refine n_toe (congrArg nI (barV_in (show i < c by omega))) ?_
            refine n_if_le (tgt := 68) hx hb dX1_bar_62 (by decide) (by have q1 := hv i (by omega); have q2 := barV_le (p := pp) (all := sumTo v c) (v := v) (k := c) (j := i); omega) (fun c62 => ?_) (fun c62 => ?_)
            · skip
              refine lv_iinc (v := nI (i + 1)) (lv' := [(4, .int (nI (i + 1))), (0, .ref (ad 0)), (1, .int (nI pp)), (2, .int (nI (sumTo v c))), (3, .int (nI lf))]) hx hb dX1_bar_68 hl (k := 4) rfl (inc1 _) (by decide) rfl (fun ls hl => ?_)
              refine lv_goto (tgt := 22) hx hb dX1_bar_71 (by decide) ?_
              exact ih22 (i + 1) lf (by omega) (by omega) (by rw [cntP_0 c62, hlf]) _ _ h _ (lv_sub hl [1, 2, 3, 4, 0] rfl)
            · skip
              refine lv_iinc (v := nI (lf + 1)) (lv' := [(3, .int (nI (lf + 1))), (0, .ref (ad 0)), (1, .int (nI pp)), (2, .int (nI (sumTo v c))), (4, .int (nI i))]) hx hb dX1_bar_65 hl (k := 3) rfl (inc1 _) (by decide) rfl (fun ls hl => ?_)
              refine lv_iinc (v := nI (i + 1)) (lv' := [(4, .int (nI (i + 1))), (3, .int (nI (lf + 1))), (0, .ref (ad 0)), (1, .int (nI pp)), (2, .int (nI (sumTo v c)))]) hx hb dX1_bar_68 hl (k := 4) rfl (inc1 _) (by decide) rfl (fun ls hl => ?_)
              refine lv_goto (tgt := 22) hx hb dX1_bar_71 (by decide) ?_
              exact ih22 (i + 1) (lf + 1) (by omega) (by omega) (by rw [cntP_1 c62, hlf]) _ _ h _ (lv_sub hl [2, 3, 4, 1, 0] rfl)
          · skip
            refine lv_aload_n hx hb dX1_bar_47 rfl (lv_at hl 0 rfl) ?_
            refine y_getV G h dX1_bar_48 ?_
            refine lv_iload hx hb dX1_bar_51 (lv_at hl 4 rfl) ?_
            refine lv_iconst (v := (nI 0)) hx hb dX1_bar_53 (by decide) ?_
            refine y_stV G h (by omega) dX1_bar_54 (fun H locs h => ?_)
            have h := y_cV (barV_zero (p := pp) (all := sumTo v c) (v := v) c44) h
            refine lv_aload_n hx hb dX1_bar_55 rfl (lv_at hl 0 rfl) ?_
            refine y_getV G h dX1_bar_56 ?_
            refine lv_iload hx hb dX1_bar_59 (lv_at hl 4 rfl) ?_
            refine y_ldV G h (by omega) dX1_bar_61 ?_
            refine n_toe (congrArg nI (barV_in (show i < c by omega))) ?_
            refine n_if_le (tgt := 68) hx hb dX1_bar_62 (by decide) (by have q1 := hv i (by omega); have q2 := barV_le (p := pp) (all := sumTo v c) (v := v) (k := c) (j := i); omega) (fun c62 => ?_) (fun c62 => ?_)
            · skip
              refine lv_iinc (v := nI (i + 1)) (lv' := [(4, .int (nI (i + 1))), (0, .ref (ad 0)), (1, .int (nI pp)), (2, .int (nI (sumTo v c))), (3, .int (nI lf))]) hx hb dX1_bar_68 hl (k := 4) rfl (inc1 _) (by decide) rfl (fun ls hl => ?_)
              refine lv_goto (tgt := 22) hx hb dX1_bar_71 (by decide) ?_
              exact ih22 (i + 1) lf (by omega) (by omega) (by rw [cntP_0 c62, hlf]) _ _ h _ (lv_sub hl [1, 2, 3, 4, 0] rfl)
            · skip
              refine lv_iinc (v := nI (lf + 1)) (lv' := [(3, .int (nI (lf + 1))), (0, .ref (ad 0)), (1, .int (nI pp)), (2, .int (nI (sumTo v c))), (4, .int (nI i))]) hx hb dX1_bar_65 hl (k := 3) rfl (inc1 _) (by decide) rfl (fun ls hl => ?_)
              refine lv_iinc (v := nI (i + 1)) (lv' := [(4, .int (nI (i + 1))), (3, .int (nI (lf + 1))), (0, .ref (ad 0)), (1, .int (nI pp)), (2, .int (nI (sumTo v c)))]) hx hb dX1_bar_68 hl (k := 4) rfl (inc1 _) (by decide) rfl (fun ls hl => ?_)
              refine lv_goto (tgt := 22) hx hb dX1_bar_71 (by decide) ?_
              exact ih22 (i + 1) (lf + 1) (by omega) (by omega) (by rw [cntP_1 c62, hlf]) _ _ h _ (lv_sub hl [2, 3, 4, 1, 0] rfl)
    exact L22 _ 0 0 (Nat.lt_succ_self _) (Nat.zero_le _) rfl _ _ h _ (lv_sub hl [3, 4, 2, 1, 0] rfl)
set_option maxHeartbeats 4000000 in
theorem mY_share (l : Launch) (D : va_G) (ad : Nat → Nat) (cI : ClassId) (c t : Nat) (v : Nat → Nat) (S K : Nat → Int32) (a b : Int32) (hc : c ≤ 6) (ht : t ≤ 30) (hv : ∀ j, j < c → v j ≤ 999) : Mi l D (tyY cI) (WY ad cI) yX1_share cX1_share 3 (some .int) 4 97 (ad 0) [.int a, .int b] (c, t, v, S, K) (pubY (sp_share c t v a b)) := by
  refine Mi.of (by decide) (Nat.le_of_ble_eq_true rfl) ?_
  intro p e s m args below meth cd A ls Q G hrt h hl hret
  have G : GY D A cI p s m args cd cX1_share 3 := G
  have h : HY D A ad cI s.heap c t v S K s.heap [] := h
  have hl : lv_has ls 3 [(0, .ref (ad 0)), (1, .int a), (2, .int b)] := hl
  have hx := G.1.1
  have hb := G.1.2.1
  have hv3 : ∀ j, j < c → v j ≤ 2999 := fun j hj => by have := hv j hj; omega
  have hal : sumTo v c ≤ 5994 := by have := sumTo_le hv; have h2 : c * 999 ≤ 6 * 999 := Nat.mul_le_mul_right _ hc; omega
  cases ha : ix 7 a with
  | none =>
    refine lv_aload_n hx hb dX1_share_0 rfl (lv_at hl 0 rfl) ?_
    refine lv_iload_n hx hb dX1_share_1 rfl (lv_at hl 1 rfl) ?_
    refine y_callr (x := nI 1) G h (mY_noRule1 l D ad cI c t v S K a ha) kY_noRule rfl ⟨Nat.le_of_ble_eq_true rfl, Nat.le_of_ble_eq_true rfl, Nat.le_refl _, Nat.le_refl _⟩ hl.1 rfl (Nat.le_of_ble_eq_true rfl) dX1_share_2 (fun H locs h => ?_)
    refine n_if_ne (tgt := 16) hx hb dX1_share_5 (by decide) (by omega) (fun c5 => ?_) (fun c5 => absurd c5 (by omega))
    refine lv_iconst (v := (-1)) hx hb dX1_share_16 (by decide) ?_
    exact hret _ _ _ _ _ (c, t, v, S, K) _ h (pubY_i (by simp only [sp_share, ha])) hrt rfl dX1_share_17
  | some r =>
    obtain ⟨hr, rfl⟩ := ix_some (by decide) ha
    cases hb2 : ix c b with
    | none =>
      refine lv_aload_n hx hb dX1_share_0 rfl (lv_at hl 0 rfl) ?_
      refine lv_iload_n hx hb dX1_share_1 rfl (lv_at hl 1 rfl) ?_
      refine y_callr (x := nI 0) G h (mY_noRule0 l D ad cI c t v S K r (by omega)) kY_noRule rfl ⟨Nat.le_of_ble_eq_true rfl, Nat.le_of_ble_eq_true rfl, Nat.le_refl _, Nat.le_refl _⟩ hl.1 rfl (Nat.le_of_ble_eq_true rfl) dX1_share_2 (fun H locs h => ?_)
      refine n_if_ne (tgt := 16) hx hb dX1_share_5 (by decide) (by omega) (fun c5 => absurd c5 (by omega)) (fun c5 => ?_)
      refine lv_aload_n hx hb dX1_share_8 rfl (lv_at hl 0 rfl) ?_
      refine lv_iload_n hx hb dX1_share_9 rfl (lv_at hl 2 rfl) ?_
      refine y_callr (x := nI 1) G h (mY_noList1 l D ad cI c t v S K b hc hb2) kY_noList rfl ⟨Nat.le_of_ble_eq_true rfl, Nat.le_of_ble_eq_true rfl, Nat.le_refl _, Nat.le_refl _⟩ hl.1 rfl (Nat.le_of_ble_eq_true rfl) dX1_share_10 (fun H locs h => ?_)
      refine n_if_eq (tgt := 18) hx hb dX1_share_13 (by decide) (by omega) (fun c13 => absurd c13 (by omega)) (fun c13 => ?_)
      refine lv_iconst (v := (-1)) hx hb dX1_share_16 (by decide) ?_
      exact hret _ _ _ _ _ (c, t, v, S, K) _ h (pubY_i (by simp only [sp_share, ha, hb2])) hrt rfl dX1_share_17
    | some i =>
      obtain ⟨hi, rfl⟩ := ix_some (by omega) hb2
      refine lv_aload_n hx hb dX1_share_0 rfl (lv_at hl 0 rfl) ?_
      refine lv_iload_n hx hb dX1_share_1 rfl (lv_at hl 1 rfl) ?_
      refine y_callr (x := nI 0) G h (mY_noRule0 l D ad cI c t v S K r (by omega)) kY_noRule rfl ⟨Nat.le_of_ble_eq_true rfl, Nat.le_of_ble_eq_true rfl, Nat.le_refl _, Nat.le_refl _⟩ hl.1 rfl (Nat.le_of_ble_eq_true rfl) dX1_share_2 (fun H locs h => ?_)
      refine n_if_ne (tgt := 16) hx hb dX1_share_5 (by decide) (by omega) (fun c5 => absurd c5 (by omega)) (fun c5 => ?_)
      refine lv_aload_n hx hb dX1_share_8 rfl (lv_at hl 0 rfl) ?_
      refine lv_iload_n hx hb dX1_share_9 rfl (lv_at hl 2 rfl) ?_
      refine y_callr (x := nI 0) G h (mY_noList0 l D ad cI c t v S K i hc (by omega)) kY_noList rfl ⟨Nat.le_of_ble_eq_true rfl, Nat.le_of_ble_eq_true rfl, Nat.le_refl _, Nat.le_refl _⟩ hl.1 rfl (Nat.le_of_ble_eq_true rfl) dX1_share_10 (fun H locs h => ?_)
      refine n_if_eq (tgt := 18) hx hb dX1_share_13 (by decide) (by omega) (fun c13 => ?_) (fun c13 => absurd c13 (by omega))
      refine lv_aload_n hx hb dX1_share_18 rfl (lv_at hl 0 rfl) ?_
      refine lv_iload_n hx hb dX1_share_19 rfl (lv_at hl 1 rfl) ?_
      refine lv_aload_n hx hb dX1_share_20 rfl (lv_at hl 0 rfl) ?_
      refine y_getT G h dX1_share_21 ?_
      refine y_callv G h (mY_give l D ad cI c t v S K r t (by omega) hc hv3 (by omega)) kY_give rfl ⟨Nat.le_of_ble_eq_true rfl, Nat.le_of_ble_eq_true rfl, Nat.le_refl _, Nat.le_refl _⟩ hl.1 rfl (Nat.le_of_ble_eq_true rfl) dX1_share_24 (fun c1 t1 v1 Sa1 K1 H locs hp h => ?_)
      obtain ⟨S2, e1, hSa1⟩ := hp
      cases e1
      refine lv_aload_n hx hb dX1_share_27 rfl (lv_at hl 0 rfl) ?_
      refine y_getS G h dX1_share_28 ?_
      refine lv_iload_n hx hb dX1_share_31 rfl (lv_at hl 2 rfl) ?_
      refine y_ldS (x := (nI (sh r v c t i))) G h (by omega) (hSa1 i hi) dX1_share_32 ?_
      exact hret _ _ _ _ _ (c, t, v, Sa1, K) _ h (pubY_i (by simp only [sp_share, ha, hb2])) hrt rfl dX1_share_33
set_option maxHeartbeats 4000000 in
theorem mY_next (l : Launch) (D : va_G) (ad : Nat → Nat) (cI : ClassId) (c t : Nat) (v : Nat → Nat) (S K : Nat → Int32) (a : Int32) (hc : c ≤ 6) (ht : t ≤ 30) (hv : ∀ j, j < c → v j ≤ 999) : Mi l D (tyY cI) (WY ad cI) yX1_next cX1_next 3 (some .int) 4 97 (ad 0) [.int a] (c, t, v, S, K) (pubY (sp_next c t v a)) := by
  refine Mi.of (by decide) (Nat.le_of_ble_eq_true rfl) ?_
  intro p e s m args below meth cd A ls Q G hrt h hl hret
  have G : GY D A cI p s m args cd cX1_next 3 := G
  have h : HY D A ad cI s.heap c t v S K s.heap [] := h
  have hl : lv_has ls 3 [(0, .ref (ad 0)), (1, .int a)] := hl
  have hx := G.1.1
  have hb := G.1.2.1
  have hv3 : ∀ j, j < c → v j ≤ 2999 := fun j hj => by have := hv j hj; omega
  have hal : sumTo v c ≤ 5994 := by have := sumTo_le hv; have h2 : c * 999 ≤ 6 * 999 := Nat.mul_le_mul_right _ hc; omega
  cases ha : ix 7 a with
  | none =>
    refine lv_aload_n hx hb dX1_next_0 rfl (lv_at hl 0 rfl) ?_
    refine lv_iload_n hx hb dX1_next_1 rfl (lv_at hl 1 rfl) ?_
    refine y_callr (x := nI 1) G h (mY_noRule1 l D ad cI c t v S K a ha) kY_noRule rfl ⟨Nat.le_of_ble_eq_true rfl, Nat.le_of_ble_eq_true rfl, Nat.le_refl _, Nat.le_refl _⟩ hl.1 rfl (Nat.le_of_ble_eq_true rfl) dX1_next_2 (fun H locs h => ?_)
    refine n_if_ne (tgt := 13) hx hb dX1_next_5 (by decide) (by omega) (fun c5 => ?_) (fun c5 => absurd c5 (by omega))
    refine lv_iconst (v := (-1)) hx hb dX1_next_13 (by decide) ?_
    exact hret _ _ _ _ _ (c, t, v, S, K) _ h (pubY_i (by simp only [sp_next, ha])) hrt rfl dX1_next_14
  | some r =>
    obtain ⟨hr, rfl⟩ := ix_some (by decide) ha
    refine lv_aload_n hx hb dX1_next_0 rfl (lv_at hl 0 rfl) ?_
    refine lv_iload_n hx hb dX1_next_1 rfl (lv_at hl 1 rfl) ?_
    refine y_callr (x := nI 0) G h (mY_noRule0 l D ad cI c t v S K r (by omega)) kY_noRule rfl ⟨Nat.le_of_ble_eq_true rfl, Nat.le_of_ble_eq_true rfl, Nat.le_refl _, Nat.le_refl _⟩ hl.1 rfl (Nat.le_of_ble_eq_true rfl) dX1_next_2 (fun H locs h => ?_)
    refine n_if_ne (tgt := 13) hx hb dX1_next_5 (by decide) (by omega) (fun c5 => absurd c5 (by omega)) (fun c5 => ?_)
    refine lv_iload_n hx hb dX1_next_8 rfl (lv_at hl 1 rfl) ?_
    refine lv_iconst (v := (nI 4)) hx hb dX1_next_9 (by decide) ?_
    refine n_icmp_le (tgt := 15) hx hb dX1_next_10 (by decide) (by omega) (by omega) (fun c10 => ?_) (fun c10 => ?_)
    · skip
      refine lv_aload_n hx hb dX1_next_15 rfl (lv_at hl 0 rfl) ?_
      refine lv_iload_n hx hb dX1_next_16 rfl (lv_at hl 1 rfl) ?_
      refine lv_aload_n hx hb dX1_next_17 rfl (lv_at hl 0 rfl) ?_
      refine y_getT G h dX1_next_18 ?_
      refine y_callv G h (mY_give l D ad cI c t v S K r t (by omega) hc hv3 (by omega)) kY_give rfl ⟨Nat.le_of_ble_eq_true rfl, Nat.le_of_ble_eq_true rfl, Nat.le_refl _, Nat.le_refl _⟩ hl.1 rfl (Nat.le_of_ble_eq_true rfl) dX1_next_21 (fun c1 t1 v1 Sa1 K1 H locs hp h => ?_)
      obtain ⟨S2, e1, hSa1⟩ := hp
      cases e1
      refine lv_aload_n hx hb dX1_next_24 rfl (lv_at hl 0 rfl) ?_
      refine y_callv G h (mY_keep l D ad cI c t v Sa1 K hc) kY_keep rfl ⟨Nat.le_of_ble_eq_true rfl, Nat.le_of_ble_eq_true rfl, Nat.le_refl _, Nat.le_refl _⟩ hl.1 rfl (Nat.le_of_ble_eq_true rfl) dX1_next_25 (fun c1 t1 v1 S1 Ka H locs hp h => ?_)
      obtain ⟨K2, e1, hKa⟩ := hp
      cases e1
      refine lv_aload_n hx hb dX1_next_28 rfl (lv_at hl 0 rfl) ?_
      refine lv_iload_n hx hb dX1_next_29 rfl (lv_at hl 1 rfl) ?_
      refine lv_aload_n hx hb dX1_next_30 rfl (lv_at hl 0 rfl) ?_
      refine y_getT G h dX1_next_31 ?_
      refine lv_iconst (v := (nI 1)) hx hb dX1_next_34 (by decide) ?_
      refine n_iadd hx hb dX1_next_35 ?_
      refine y_callv G h (mY_give l D ad cI c t v Sa1 Ka r (t + 1) (by omega) hc hv3 (by omega)) kY_give rfl ⟨Nat.le_of_ble_eq_true rfl, Nat.le_of_ble_eq_true rfl, Nat.le_refl _, Nat.le_refl _⟩ hl.1 rfl (Nat.le_of_ble_eq_true rfl) dX1_next_36 (fun c1 t1 v1 Sa2 K1 H locs hp h => ?_)
      obtain ⟨S2, e1, hSa2⟩ := hp
      cases e1
      refine lv_iconst (v := (nI 0)) hx hb dX1_next_39 (by decide) ?_
      refine lv_istore_n (lv' := [(2, .int (nI 0)), (0, .ref (ad 0)), (1, .int (nI r))]) hx hb dX1_next_40 rfl hl (by decide) rfl (fun ls hl => ?_)
      have L41 : ∀ (n41 : Nat) (i : Nat), c - i < n41 → (i ≤ c) → (∀ j, j < i → sh r v c (t + 1) j ≤ sh r v c t j) → ∀ (H : Heap) (locs : List Loc), HY D A ad cI s.heap c t v Sa2 Ka H locs → ∀ (ls : Array Slot), lv_has ls 3 [(0, .ref (ad 0)), (1, .int (nI r)), (2, .int (nI i))] → W p l e (rmm 4 97) s m args below meth cd H locs 0 0 Q (F0 m 41 ls []) := by
        intro n41
        induction n41 with
        | zero =>
          intro i hm
          exact absurd hm (Nat.not_lt_zero _)
        | succ n41 ih41 =>
          intro i hm41 hi hno H locs h ls hl
          refine lv_iload_n hx hb dX1_next_41 rfl (lv_at hl 2 rfl) ?_
          refine lv_aload_n hx hb dX1_next_42 rfl (lv_at hl 0 rfl) ?_
          refine y_getC G h dX1_next_43 ?_
          refine n_icmp_ge (tgt := 72) hx hb dX1_next_46 (by decide) (by omega) (by omega) (fun c46 => ?_) (fun c46 => ?_)
          · skip
            refine lv_bipush (v := (-4)) hx hb dX1_next_72 (by decide) ?_
            exact hret _ _ _ _ _ (c, t, v, Sa2, Ka) _ h (pubY_i (by simp only [sp_next, ha, if_neg (show ¬ 5 ≤ r by omega), if_pos (next_none (by omega) (fun j hj => hno j (by omega)))])) hrt rfl dX1_next_74
          · skip
            refine lv_aload_n hx hb dX1_next_49 rfl (lv_at hl 0 rfl) ?_
            refine y_getS G h dX1_next_50 ?_
            refine lv_iload_n hx hb dX1_next_53 rfl (lv_at hl 2 rfl) ?_
            refine y_ldS (x := (nI (sh r v c (t + 1) i))) G h (by omega) (hSa2 _ (by omega)) dX1_next_54 ?_
            refine lv_aload_n hx hb dX1_next_55 rfl (lv_at hl 0 rfl) ?_
            refine y_getK G h dX1_next_56 ?_
            refine lv_iload_n hx hb dX1_next_59 rfl (lv_at hl 2 rfl) ?_
            refine y_ldK (x := (nI (sh r v c t i))) G h (by omega) ((hKa _ (by omega)).trans (hSa1 _ (by omega))) dX1_next_60 ?_
            refine n_icmp_le (tgt := 66) hx hb dX1_next_61 (by decide) (by have q1 := sh_le (r := r) (v := v) (n := t + 1) (show i < c by omega); omega) (by have q1 := sh_le (r := r) (v := v) (n := t) (show i < c by omega); omega) (fun c61 => ?_) (fun c61 => ?_)
            · skip
              refine lv_iinc (v := nI (i + 1)) (lv' := [(2, .int (nI (i + 1))), (0, .ref (ad 0)), (1, .int (nI r))]) hx hb dX1_next_66 hl (k := 2) rfl (inc1 _) (by decide) rfl (fun ls hl => ?_)
              refine lv_goto (tgt := 41) hx hb dX1_next_69 (by decide) ?_
              exact ih41 (i + 1) (by omega) (by omega) (lt_s hno c61) _ _ h _ (lv_sub hl [1, 2, 0] rfl)
            · skip
              refine lv_iload_n hx hb dX1_next_64 rfl (lv_at hl 2 rfl) ?_
              exact hret _ _ _ _ _ (c, t, v, Sa2, Ka) _ h (pubY_i (by obtain ⟨q1, q2⟩ := next_hit (by omega) (show i < c by omega) c61; simp only [sp_next, ha, if_neg (show ¬ 5 ≤ r by omega), if_neg q1, q2]; rfl)) hrt rfl dX1_next_65
      exact L41 _ 0 (Nat.lt_succ_self _) (Nat.zero_le _) (fun j h => absurd h (Nat.not_lt_zero _)) _ _ h _ (lv_sub hl [1, 2, 0] rfl)
    · skip
      refine lv_iconst (v := (-1)) hx hb dX1_next_13 (by decide) ?_
      exact hret _ _ _ _ _ (c, t, v, S, K) _ h (pubY_i (by simp only [sp_next, ha, if_pos (show 5 ≤ r by omega)])) hrt rfl dX1_next_14
end
section
set_option maxRecDepth 100000
set_option maxHeartbeats 4000000 in
theorem mY_missing (l : Launch) (D : va_G) (ad : Nat → Nat) (cI : ClassId) (c t : Nat) (v : Nat → Nat) (S K : Nat → Int32) (a b : Int32) (hc : c ≤ 6) (ht : t ≤ 30) (hv : ∀ j, j < c → v j ≤ 999) : Mi l D (tyY cI) (WY ad cI) yX1_missing cX1_missing 6 (some .int) 5 121 (ad 0) [.int a, .int b] (c, t, v, S, K) (pubY (sp_missing c t v a b)) := by
  refine Mi.of (by decide) (Nat.le_of_ble_eq_true rfl) ?_
  intro p e s m args below meth cd A ls Q G hrt h hl hret
  have G : GY D A cI p s m args cd cX1_missing 6 := G
  have h : HY D A ad cI s.heap c t v S K s.heap [] := h
  have hl : lv_has ls 6 [(0, .ref (ad 0)), (1, .int a), (2, .int b)] := hl
  have hx := G.1.1
  have hb := G.1.2.1
  have hv3 : ∀ j, j < c → v j ≤ 2999 := fun j hj => by have := hv j hj; omega
  have hal : sumTo v c ≤ 5994 := by have := sumTo_le hv; have h2 : c * 999 ≤ 6 * 999 := Nat.mul_le_mul_right _ hc; omega
  cases ha : ix 7 a with
  | none =>
    refine lv_aload_n hx hb dX1_missing_0 rfl (lv_at hl 0 rfl) ?_
    refine lv_iload_n hx hb dX1_missing_1 rfl (lv_at hl 1 rfl) ?_
    refine y_callr (x := nI 1) G h (mY_noRule1 l D ad cI c t v S K a ha) kY_noRule rfl ⟨Nat.le_of_ble_eq_true rfl, Nat.le_of_ble_eq_true rfl, Nat.le_refl _, Nat.le_refl _⟩ hl.1 rfl (Nat.le_of_ble_eq_true rfl) dX1_missing_2 (fun H locs h => ?_)
    refine n_if_ne (tgt := 21) hx hb dX1_missing_5 (by decide) (by omega) (fun c5 => ?_) (fun c5 => absurd c5 (by omega))
    refine lv_iconst (v := (-1)) hx hb dX1_missing_21 (by decide) ?_
    exact hret _ _ _ _ _ (c, t, v, S, K) _ h (pubY_i (by simp only [sp_missing, ha])) hrt rfl dX1_missing_22
  | some r =>
    obtain ⟨hr, rfl⟩ := ix_some (by decide) ha
    cases hb2 : ix c b with
    | none =>
      refine lv_aload_n hx hb dX1_missing_0 rfl (lv_at hl 0 rfl) ?_
      refine lv_iload_n hx hb dX1_missing_1 rfl (lv_at hl 1 rfl) ?_
      refine y_callr (x := nI 0) G h (mY_noRule0 l D ad cI c t v S K r (by omega)) kY_noRule rfl ⟨Nat.le_of_ble_eq_true rfl, Nat.le_of_ble_eq_true rfl, Nat.le_refl _, Nat.le_refl _⟩ hl.1 rfl (Nat.le_of_ble_eq_true rfl) dX1_missing_2 (fun H locs h => ?_)
      refine n_if_ne (tgt := 21) hx hb dX1_missing_5 (by decide) (by omega) (fun c5 => absurd c5 (by omega)) (fun c5 => ?_)
      refine lv_iload_n hx hb dX1_missing_8 rfl (lv_at hl 1 rfl) ?_
      refine lv_iconst (v := (nI 4)) hx hb dX1_missing_9 (by decide) ?_
      refine n_icmp_gt (tgt := 21) hx hb dX1_missing_10 (by decide) (by omega) (by omega) (fun c10 => ?_) (fun c10 => ?_)
      · skip
        refine lv_iconst (v := (-1)) hx hb dX1_missing_21 (by decide) ?_
        exact hret _ _ _ _ _ (c, t, v, S, K) _ h (pubY_i (by simp only [sp_missing, ha, hb2, if_pos (show 5 ≤ r by omega)])) hrt rfl dX1_missing_22
      · skip
        refine lv_aload_n hx hb dX1_missing_13 rfl (lv_at hl 0 rfl) ?_
        refine lv_iload_n hx hb dX1_missing_14 rfl (lv_at hl 2 rfl) ?_
        refine y_callr (x := nI 1) G h (mY_noList1 l D ad cI c t v S K b hc hb2) kY_noList rfl ⟨Nat.le_of_ble_eq_true rfl, Nat.le_of_ble_eq_true rfl, Nat.le_refl _, Nat.le_refl _⟩ hl.1 rfl (Nat.le_of_ble_eq_true rfl) dX1_missing_15 (fun H locs h => ?_)
        refine n_if_eq (tgt := 23) hx hb dX1_missing_18 (by decide) (by omega) (fun c18 => absurd c18 (by omega)) (fun c18 => ?_)
        refine lv_iconst (v := (-1)) hx hb dX1_missing_21 (by decide) ?_
        exact hret _ _ _ _ _ (c, t, v, S, K) _ h (pubY_i (by simp only [sp_missing, ha, hb2, if_neg (show ¬ 5 ≤ r by omega)])) hrt rfl dX1_missing_22
    | some i =>
      obtain ⟨hi, rfl⟩ := ix_some (by omega) hb2
      refine lv_aload_n hx hb dX1_missing_0 rfl (lv_at hl 0 rfl) ?_
      refine lv_iload_n hx hb dX1_missing_1 rfl (lv_at hl 1 rfl) ?_
      refine y_callr (x := nI 0) G h (mY_noRule0 l D ad cI c t v S K r (by omega)) kY_noRule rfl ⟨Nat.le_of_ble_eq_true rfl, Nat.le_of_ble_eq_true rfl, Nat.le_refl _, Nat.le_refl _⟩ hl.1 rfl (Nat.le_of_ble_eq_true rfl) dX1_missing_2 (fun H locs h => ?_)
      refine n_if_ne (tgt := 21) hx hb dX1_missing_5 (by decide) (by omega) (fun c5 => absurd c5 (by omega)) (fun c5 => ?_)
      refine lv_iload_n hx hb dX1_missing_8 rfl (lv_at hl 1 rfl) ?_
      refine lv_iconst (v := (nI 4)) hx hb dX1_missing_9 (by decide) ?_
      refine n_icmp_gt (tgt := 21) hx hb dX1_missing_10 (by decide) (by omega) (by omega) (fun c10 => ?_) (fun c10 => ?_)
      · skip
        refine lv_iconst (v := (-1)) hx hb dX1_missing_21 (by decide) ?_
        exact hret _ _ _ _ _ (c, t, v, S, K) _ h (pubY_i (by simp only [sp_missing, ha, hb2, if_pos (show 5 ≤ r by omega)])) hrt rfl dX1_missing_22
      · skip
        refine lv_aload_n hx hb dX1_missing_13 rfl (lv_at hl 0 rfl) ?_
        refine lv_iload_n hx hb dX1_missing_14 rfl (lv_at hl 2 rfl) ?_
        refine y_callr (x := nI 0) G h (mY_noList0 l D ad cI c t v S K i hc (by omega)) kY_noList rfl ⟨Nat.le_of_ble_eq_true rfl, Nat.le_of_ble_eq_true rfl, Nat.le_refl _, Nat.le_refl _⟩ hl.1 rfl (Nat.le_of_ble_eq_true rfl) dX1_missing_15 (fun H locs h => ?_)
        refine n_if_eq (tgt := 23) hx hb dX1_missing_18 (by decide) (by omega) (fun c18 => ?_) (fun c18 => absurd c18 (by omega))
        refine lv_aload_n hx hb dX1_missing_23 rfl (lv_at hl 0 rfl) ?_
        refine lv_iload_n hx hb dX1_missing_24 rfl (lv_at hl 1 rfl) ?_
        refine lv_iload_n hx hb dX1_missing_25 rfl (lv_at hl 2 rfl) ?_
        refine lv_aload_n hx hb dX1_missing_26 rfl (lv_at hl 0 rfl) ?_
        refine y_getV G h dX1_missing_27 ?_
        refine lv_iload_n hx hb dX1_missing_30 rfl (lv_at hl 2 rfl) ?_
        refine y_ldV G h (by omega) dX1_missing_31 ?_
        refine y_calli G h (mY_shareWith l D ad cI c t v S K r i (v i) (by omega) hc (by omega) hv3 (by have := hv i hi; omega) ht) kY_shareWith rfl ⟨Nat.le_of_ble_eq_true rfl, Nat.le_of_ble_eq_true rfl, Nat.le_refl _, Nat.le_refl _⟩ hl.1 rfl (Nat.le_of_ble_eq_true rfl) dX1_missing_32 (fun r1 c1 t1 v1 Sb1 K1 H locs hp h => ?_)
        obtain ⟨rfl, S2, e1⟩ := hp
        cases e1
        refine lv_istore_n (lv' := [(3, .int (nI (shW r v c t i (v i)))), (0, .ref (ad 0)), (1, .int (nI r)), (2, .int (nI i))]) hx hb dX1_missing_35 rfl hl (by decide) rfl (fun ls hl => ?_)
        refine lv_iload_n hx hb dX1_missing_36 rfl (lv_at hl 0 rfl) ?_
        refine lv_aload_n hx hb dX1_missing_37 rfl (lv_at hl 1 rfl) ?_
        refine y_getT G h dX1_missing_38 ?_
        refine n_icmp_ne (tgt := 47) hx hb dX1_missing_41 (by decide) (by have := sh_le (r := r) (v := va_up v i (v i)) (n := t) hi; show shW r v c t i _ < _; unfold shW; omega) (by omega) (fun c41 => ?_) (fun c41 => ?_)
        · skip
          refine lv_iconst (v := (nI 1)) hx hb dX1_missing_47 (by decide) ?_
          refine lv_istore (lv' := [(4, .int (nI 1)), (3, .int (nI (shW r v c t i (v i)))), (0, .ref (ad 0)), (1, .int (nI r)), (2, .int (nI i))]) hx hb dX1_missing_48 hl (by decide) rfl (fun ls hl => ?_)
          have L50 : ∀ (n50 : Nat) (mo : Nat) (S1 : Nat → Int32), 2001 - mo < n50 → (1 ≤ mo) → (mo ≤ 2001) → (lst (fun m => decide (shW r v c t i (v i) < shW r v c t i (v i + m))) (2001 - mo) mo = lst (fun m => decide (shW r v c t i (v i) < shW r v c t i (v i + m))) 2000 1) → ∀ (H : Heap) (locs : List Loc), HY D A ad cI s.heap c t v S1 K H locs → ∀ (ls : Array Slot), lv_has ls 6 [(0, .ref (ad 0)), (1, .int (nI r)), (2, .int (nI i)), (3, .int (nI (shW r v c t i (v i)))), (4, .int (nI mo))] → W p l e (rmm 5 121) s m args below meth cd H locs 0 0 Q (F0 m 50 ls []) := by
            intro n50
            induction n50 with
            | zero =>
              intro mo S1 hm
              exact absurd hm (Nat.not_lt_zero _)
            | succ n50 ih50 =>
              intro mo S1 hm50 hm1 hm2 hls H locs h ls hl
              refine lv_iload hx hb dX1_missing_50 (lv_at hl 4 rfl) ?_
              refine lv_sipush (v := (nI 2000)) hx hb dX1_missing_52 (by decide) ?_
              refine n_icmp_gt (tgt := 90) hx hb dX1_missing_55 (by decide) (by omega) (by omega) (fun c55 => ?_) (fun c55 => ?_)
              · skip
                refine lv_bipush (v := (-4)) hx hb dX1_missing_90 (by decide) ?_
                exact hret _ _ _ _ _ (c, t, v, S1, K) _ h (pubY_i (by simp only [sp_missing, ha, hb2, if_neg (show ¬ 5 ≤ r by omega)]; rw [← hls, show 2001 - mo = 0 by omega]; rfl)) hrt rfl dX1_missing_92
              · skip
                refine lv_aload_n hx hb dX1_missing_58 rfl (lv_at hl 0 rfl) ?_
                refine lv_iload_n hx hb dX1_missing_59 rfl (lv_at hl 1 rfl) ?_
                refine lv_iload_n hx hb dX1_missing_60 rfl (lv_at hl 2 rfl) ?_
                refine lv_aload_n hx hb dX1_missing_61 rfl (lv_at hl 0 rfl) ?_
                refine y_getV G h dX1_missing_62 ?_
                refine lv_iload_n hx hb dX1_missing_65 rfl (lv_at hl 2 rfl) ?_
                refine y_ldV G h (by omega) dX1_missing_66 ?_
                refine lv_iload hx hb dX1_missing_67 (lv_at hl 4 rfl) ?_
                refine n_iadd hx hb dX1_missing_69 ?_
                refine y_calli G h (mY_shareWith l D ad cI c t v S1 K r i ((v i) + mo) (by omega) hc (by omega) hv3 (by have := hv i hi; omega) ht) kY_shareWith rfl ⟨Nat.le_of_ble_eq_true rfl, Nat.le_of_ble_eq_true rfl, Nat.le_refl _, Nat.le_refl _⟩ hl.1 rfl (Nat.le_of_ble_eq_true rfl) dX1_missing_70 (fun r1 c1 t1 v1 Sb2 K1 H locs hp h => ?_)
                obtain ⟨rfl, S2, e1⟩ := hp
                cases e1
                refine lv_istore (lv' := [(5, .int (nI (shW r v c t i ((v i) + mo)))), (0, .ref (ad 0)), (1, .int (nI r)), (2, .int (nI i)), (3, .int (nI (shW r v c t i (v i)))), (4, .int (nI mo))]) hx hb dX1_missing_73 hl (by decide) rfl (fun ls hl => ?_)
                refine lv_iload hx hb dX1_missing_75 (lv_at hl 0 rfl) ?_
                refine lv_iload_n hx hb dX1_missing_77 rfl (lv_at hl 4 rfl) ?_
                refine n_icmp_le (tgt := 84) hx hb dX1_missing_78 (by decide) (by have := sh_le (r := r) (v := va_up v i (v i + mo)) (n := t) hi; show shW r v c t i _ < _; unfold shW; omega) (by have := sh_le (r := r) (v := va_up v i (v i)) (n := t) hi; show shW r v c t i _ < _; unfold shW; omega) (fun c78 => ?_) (fun c78 => ?_)
                · skip
                  refine lv_iinc (v := nI (mo + 1)) (lv' := [(4, .int (nI (mo + 1))), (5, .int (nI (shW r v c t i ((v i) + mo)))), (0, .ref (ad 0)), (1, .int (nI r)), (2, .int (nI i)), (3, .int (nI (shW r v c t i (v i))))]) hx hb dX1_missing_84 hl (k := 5) rfl (inc1 _) (by decide) rfl (fun ls hl => ?_)
                  refine lv_goto (tgt := 50) hx hb dX1_missing_87 (by decide) ?_
                  exact ih50 (mo + 1) Sb2 (by omega) (by omega) (by omega) (by rw [← hls, lst_miss (P := (fun m => decide (shW r v c t i (v i) < shW r v c t i (v i + m)))) (f := 2001 - mo) (k := mo) (by omega) (decide_eq_false (by omega))]; rfl) _ _ h _ (lv_sub hl [2, 3, 4, 5, 0] rfl)
                · skip
                  refine lv_iload hx hb dX1_missing_81 (lv_at hl 5 rfl) ?_
                  exact hret _ _ _ _ _ (c, t, v, Sb2, K) _ h (pubY_i (by simp only [sp_missing, ha, hb2, if_neg (show ¬ 5 ≤ r by omega)]; rw [← hls, lst_hit (P := (fun m => decide (shW r v c t i (v i) < shW r v c t i (v i + m)))) (f := 2001 - mo) (k := mo) (by omega) (decide_eq_true c78)]; rfl)) hrt rfl dX1_missing_83
          exact L50 _ 1 Sb1 (Nat.lt_succ_self _) (Nat.le_refl _) (by omega) rfl _ _ h _ (lv_sub hl [2, 3, 4, 1, 0] rfl)
        · skip
          refine lv_bipush (v := (-4)) hx hb dX1_missing_44 (by decide) ?_
          exact hret _ _ _ _ _ (c, t, v, Sb1, K) _ h (pubY_i (by simp only [sp_missing, ha, hb2, if_neg (show ¬ 5 ≤ r by omega)]; rw [lst_none (P := (fun m => decide (shW r v c t i (v i) < shW r v c t i (v i + m)))) (fun m _ _ => decide_eq_false (by have := sh_le (r := r) (v := va_up v i (v i + m)) (n := t) hi; rw [c41]; unfold shW; omega))]; rfl)) hrt rfl dX1_missing_46
set_option maxHeartbeats 4000000 in
theorem mY_spare (l : Launch) (D : va_G) (ad : Nat → Nat) (cI : ClassId) (c t : Nat) (v : Nat → Nat) (S K : Nat → Int32) (a b : Int32) (hc : c ≤ 6) (ht : t ≤ 30) (hv : ∀ j, j < c → v j ≤ 999) : Mi l D (tyY cI) (WY ad cI) yX1_spare cX1_spare 6 (some .int) 5 121 (ad 0) [.int a, .int b] (c, t, v, S, K) (pubY (sp_spare c t v a b)) := by
  refine Mi.of (by decide) (Nat.le_of_ble_eq_true rfl) ?_
  intro p e s m args below meth cd A ls Q G hrt h hl hret
  have G : GY D A cI p s m args cd cX1_spare 6 := G
  have h : HY D A ad cI s.heap c t v S K s.heap [] := h
  have hl : lv_has ls 6 [(0, .ref (ad 0)), (1, .int a), (2, .int b)] := hl
  have hx := G.1.1
  have hb := G.1.2.1
  have hv3 : ∀ j, j < c → v j ≤ 2999 := fun j hj => by have := hv j hj; omega
  have hal : sumTo v c ≤ 5994 := by have := sumTo_le hv; have h2 : c * 999 ≤ 6 * 999 := Nat.mul_le_mul_right _ hc; omega
  cases ha : ix 7 a with
  | none =>
    refine lv_aload_n hx hb dX1_spare_0 rfl (lv_at hl 0 rfl) ?_
    refine lv_iload_n hx hb dX1_spare_1 rfl (lv_at hl 1 rfl) ?_
    refine y_callr (x := nI 1) G h (mY_noRule1 l D ad cI c t v S K a ha) kY_noRule rfl ⟨Nat.le_of_ble_eq_true rfl, Nat.le_of_ble_eq_true rfl, Nat.le_refl _, Nat.le_refl _⟩ hl.1 rfl (Nat.le_of_ble_eq_true rfl) dX1_spare_2 (fun H locs h => ?_)
    refine n_if_ne (tgt := 21) hx hb dX1_spare_5 (by decide) (by omega) (fun c5 => ?_) (fun c5 => absurd c5 (by omega))
    refine lv_iconst (v := (-1)) hx hb dX1_spare_21 (by decide) ?_
    exact hret _ _ _ _ _ (c, t, v, S, K) _ h (pubY_i (by simp only [sp_spare, ha])) hrt rfl dX1_spare_22
  | some r =>
    obtain ⟨hr, rfl⟩ := ix_some (by decide) ha
    cases hb2 : ix c b with
    | none =>
      refine lv_aload_n hx hb dX1_spare_0 rfl (lv_at hl 0 rfl) ?_
      refine lv_iload_n hx hb dX1_spare_1 rfl (lv_at hl 1 rfl) ?_
      refine y_callr (x := nI 0) G h (mY_noRule0 l D ad cI c t v S K r (by omega)) kY_noRule rfl ⟨Nat.le_of_ble_eq_true rfl, Nat.le_of_ble_eq_true rfl, Nat.le_refl _, Nat.le_refl _⟩ hl.1 rfl (Nat.le_of_ble_eq_true rfl) dX1_spare_2 (fun H locs h => ?_)
      refine n_if_ne (tgt := 21) hx hb dX1_spare_5 (by decide) (by omega) (fun c5 => absurd c5 (by omega)) (fun c5 => ?_)
      refine lv_iload_n hx hb dX1_spare_8 rfl (lv_at hl 1 rfl) ?_
      refine lv_iconst (v := (nI 4)) hx hb dX1_spare_9 (by decide) ?_
      refine n_icmp_gt (tgt := 21) hx hb dX1_spare_10 (by decide) (by omega) (by omega) (fun c10 => ?_) (fun c10 => ?_)
      · skip
        refine lv_iconst (v := (-1)) hx hb dX1_spare_21 (by decide) ?_
        exact hret _ _ _ _ _ (c, t, v, S, K) _ h (pubY_i (by simp only [sp_spare, ha, hb2, if_pos (show 5 ≤ r by omega)])) hrt rfl dX1_spare_22
      · skip
        refine lv_aload_n hx hb dX1_spare_13 rfl (lv_at hl 0 rfl) ?_
        refine lv_iload_n hx hb dX1_spare_14 rfl (lv_at hl 2 rfl) ?_
        refine y_callr (x := nI 1) G h (mY_noList1 l D ad cI c t v S K b hc hb2) kY_noList rfl ⟨Nat.le_of_ble_eq_true rfl, Nat.le_of_ble_eq_true rfl, Nat.le_refl _, Nat.le_refl _⟩ hl.1 rfl (Nat.le_of_ble_eq_true rfl) dX1_spare_15 (fun H locs h => ?_)
        refine n_if_eq (tgt := 23) hx hb dX1_spare_18 (by decide) (by omega) (fun c18 => absurd c18 (by omega)) (fun c18 => ?_)
        refine lv_iconst (v := (-1)) hx hb dX1_spare_21 (by decide) ?_
        exact hret _ _ _ _ _ (c, t, v, S, K) _ h (pubY_i (by simp only [sp_spare, ha, hb2, if_neg (show ¬ 5 ≤ r by omega)])) hrt rfl dX1_spare_22
    | some i =>
      obtain ⟨hi, rfl⟩ := ix_some (by omega) hb2
      refine lv_aload_n hx hb dX1_spare_0 rfl (lv_at hl 0 rfl) ?_
      refine lv_iload_n hx hb dX1_spare_1 rfl (lv_at hl 1 rfl) ?_
      refine y_callr (x := nI 0) G h (mY_noRule0 l D ad cI c t v S K r (by omega)) kY_noRule rfl ⟨Nat.le_of_ble_eq_true rfl, Nat.le_of_ble_eq_true rfl, Nat.le_refl _, Nat.le_refl _⟩ hl.1 rfl (Nat.le_of_ble_eq_true rfl) dX1_spare_2 (fun H locs h => ?_)
      refine n_if_ne (tgt := 21) hx hb dX1_spare_5 (by decide) (by omega) (fun c5 => absurd c5 (by omega)) (fun c5 => ?_)
      refine lv_iload_n hx hb dX1_spare_8 rfl (lv_at hl 1 rfl) ?_
      refine lv_iconst (v := (nI 4)) hx hb dX1_spare_9 (by decide) ?_
      refine n_icmp_gt (tgt := 21) hx hb dX1_spare_10 (by decide) (by omega) (by omega) (fun c10 => ?_) (fun c10 => ?_)
      · skip
        refine lv_iconst (v := (-1)) hx hb dX1_spare_21 (by decide) ?_
        exact hret _ _ _ _ _ (c, t, v, S, K) _ h (pubY_i (by simp only [sp_spare, ha, hb2, if_pos (show 5 ≤ r by omega)])) hrt rfl dX1_spare_22
      · skip
        refine lv_aload_n hx hb dX1_spare_13 rfl (lv_at hl 0 rfl) ?_
        refine lv_iload_n hx hb dX1_spare_14 rfl (lv_at hl 2 rfl) ?_
        refine y_callr (x := nI 0) G h (mY_noList0 l D ad cI c t v S K i hc (by omega)) kY_noList rfl ⟨Nat.le_of_ble_eq_true rfl, Nat.le_of_ble_eq_true rfl, Nat.le_refl _, Nat.le_refl _⟩ hl.1 rfl (Nat.le_of_ble_eq_true rfl) dX1_spare_15 (fun H locs h => ?_)
        refine n_if_eq (tgt := 23) hx hb dX1_spare_18 (by decide) (by omega) (fun c18 => ?_) (fun c18 => absurd c18 (by omega))
        refine lv_aload_n hx hb dX1_spare_23 rfl (lv_at hl 0 rfl) ?_
        refine lv_iload_n hx hb dX1_spare_24 rfl (lv_at hl 1 rfl) ?_
        refine lv_iload_n hx hb dX1_spare_25 rfl (lv_at hl 2 rfl) ?_
        refine lv_aload_n hx hb dX1_spare_26 rfl (lv_at hl 0 rfl) ?_
        refine y_getV G h dX1_spare_27 ?_
        refine lv_iload_n hx hb dX1_spare_30 rfl (lv_at hl 2 rfl) ?_
        refine y_ldV G h (by omega) dX1_spare_31 ?_
        refine y_calli G h (mY_shareWith l D ad cI c t v S K r i (v i) (by omega) hc (by omega) hv3 (by have := hv i hi; omega) ht) kY_shareWith rfl ⟨Nat.le_of_ble_eq_true rfl, Nat.le_of_ble_eq_true rfl, Nat.le_refl _, Nat.le_refl _⟩ hl.1 rfl (Nat.le_of_ble_eq_true rfl) dX1_spare_32 (fun r1 c1 t1 v1 Sb1 K1 H locs hp h => ?_)
        obtain ⟨rfl, S2, e1⟩ := hp
        cases e1
        refine lv_istore_n (lv' := [(3, .int (nI (shW r v c t i (v i)))), (0, .ref (ad 0)), (1, .int (nI r)), (2, .int (nI i))]) hx hb dX1_spare_35 rfl hl (by decide) rfl (fun ls hl => ?_)
        refine lv_aload_n hx hb dX1_spare_36 rfl (lv_at hl 1 rfl) ?_
        refine y_getV G h dX1_spare_37 ?_
        refine lv_iload_n hx hb dX1_spare_40 rfl (lv_at hl 3 rfl) ?_
        refine y_ldV G h (by omega) dX1_spare_41 ?_
        refine lv_istore (lv' := [(4, .int (nI (v i))), (3, .int (nI (shW r v c t i (v i)))), (0, .ref (ad 0)), (1, .int (nI r)), (2, .int (nI i))]) hx hb dX1_spare_42 hl (by decide) rfl (fun ls hl => ?_)
        refine lv_aload_n hx hb dX1_spare_44 rfl (lv_at hl 2 rfl) ?_
        refine lv_iload_n hx hb dX1_spare_45 rfl (lv_at hl 3 rfl) ?_
        refine lv_iload_n hx hb dX1_spare_46 rfl (lv_at hl 4 rfl) ?_
        refine lv_iconst (v := (nI 0)) hx hb dX1_spare_47 (by decide) ?_
        refine y_calli G h (mY_shareWith l D ad cI c t v Sb1 K r i 0 (by omega) hc (by omega) hv3 (by have := hv i hi; omega) ht) kY_shareWith rfl ⟨Nat.le_of_ble_eq_true rfl, Nat.le_of_ble_eq_true rfl, Nat.le_refl _, Nat.le_refl _⟩ hl.1 rfl (Nat.le_of_ble_eq_true rfl) dX1_spare_48 (fun r1 c1 t1 v1 Sb2 K1 H locs hp h => ?_)
        obtain ⟨rfl, S2, e1⟩ := hp
        cases e1
        refine lv_istore (lv' := [(5, .int (nI (shW r v c t i 0))), (4, .int (nI (v i))), (3, .int (nI (shW r v c t i (v i)))), (0, .ref (ad 0)), (1, .int (nI r)), (2, .int (nI i))]) hx hb dX1_spare_51 hl (by decide) rfl (fun ls hl => ?_)
        have hl : lv_has ls 6 [(5, .int (nI (shW r v c t i (v i - v i)))), (4, .int (nI (v i))), (3, .int (nI (shW r v c t i (v i)))), (0, .ref (ad 0)), (1, .int (nI r)), (2, .int (nI i))] := by rw [Nat.sub_self]; exact hl
        have L53 : ∀ (n53 : Nat) (k : Nat) (S1 : Nat → Int32), k < n53 → (k ≤ v i) → (gst (fun m => decide (shW r v c t i (v i - m) = shW r v c t i (v i))) k = gst (fun m => decide (shW r v c t i (v i - m) = shW r v c t i (v i))) (v i)) → ∀ (H : Heap) (locs : List Loc), HY D A ad cI s.heap c t v S1 K H locs → ∀ (ls : Array Slot), lv_has ls 6 [(0, .ref (ad 0)), (1, .int (nI r)), (2, .int (nI i)), (3, .int (nI (shW r v c t i (v i)))), (4, .int (nI k)), (5, .int (nI (shW r v c t i (v i - k))))] → W p l e (rmm 5 121) s m args below meth cd H locs 0 0 Q (F0 m 53 ls []) := by
          intro n53
          induction n53 with
          | zero =>
            intro k S1 hm
            exact absurd hm (Nat.not_lt_zero _)
          | succ n53 ih53 =>
            intro k S1 hm53 hk hgs H locs h ls hl
            refine lv_iload hx hb dX1_spare_53 (lv_at hl 5 rfl) ?_
            refine lv_iload_n hx hb dX1_spare_55 rfl (lv_at hl 3 rfl) ?_
            refine n_icmp_eq (tgt := 82) hx hb dX1_spare_56 (by decide) (by have := sh_le (r := r) (v := va_up v i (v i - k)) (n := t) hi; show shW r v c t i _ < _; unfold shW; omega) (by have := sh_le (r := r) (v := va_up v i (v i)) (n := t) hi; show shW r v c t i _ < _; unfold shW; omega) (fun c56 => ?_) (fun c56 => ?_)
            · skip
              refine lv_iload hx hb dX1_spare_82 (lv_at hl 4 rfl) ?_
              exact hret _ _ _ _ _ (c, t, v, S1, K) _ h (pubY_i (by simp only [sp_spare, ha, hb2, if_neg (show ¬ 5 ≤ r by omega)]; rw [← hgs, gst_hit (P := (fun m => decide (shW r v c t i (v i - m) = shW r v c t i (v i)))) (decide_eq_true c56)])) hrt rfl dX1_spare_84
            · skip
              have hk0 : 0 < k := Nat.pos_of_ne_zero (fun z => c56 (by rw [z]; rfl))
              have hvi := hv i hi
              refine lv_iinc (v := nI (k - 1)) (lv' := [(4, .int (nI (k - 1))), (0, .ref (ad 0)), (1, .int (nI r)), (2, .int (nI i)), (3, .int (nI (shW r v c t i (v i)))), (5, .int (nI (shW r v c t i (v i - k))))]) hx hb dX1_spare_59 hl (k := 4) rfl (dec1 hk0) (by decide) rfl (fun ls hl => ?_)
              refine lv_aload_n hx hb dX1_spare_62 rfl (lv_at hl 1 rfl) ?_
              refine lv_iload_n hx hb dX1_spare_63 rfl (lv_at hl 2 rfl) ?_
              refine lv_iload_n hx hb dX1_spare_64 rfl (lv_at hl 3 rfl) ?_
              refine lv_aload_n hx hb dX1_spare_65 rfl (lv_at hl 1 rfl) ?_
              refine y_getV G h dX1_spare_66 ?_
              refine lv_iload_n hx hb dX1_spare_69 rfl (lv_at hl 3 rfl) ?_
              refine y_ldV G h (by omega) dX1_spare_70 ?_
              refine lv_iload hx hb dX1_spare_71 (lv_at hl 0 rfl) ?_
              refine n_isub hx hb dX1_spare_73 (by omega) ?_
              refine y_calli G h (mY_shareWith l D ad cI c t v S1 K r i ((v i) - (k - 1)) (by omega) hc (by omega) hv3 (by have := hv i hi; omega) ht) kY_shareWith rfl ⟨Nat.le_of_ble_eq_true rfl, Nat.le_of_ble_eq_true rfl, Nat.le_refl _, Nat.le_refl _⟩ hl.1 rfl (Nat.le_of_ble_eq_true rfl) dX1_spare_74 (fun r1 c1 t1 v1 Sb3 K1 H locs hp h => ?_)
              obtain ⟨rfl, S2, e1⟩ := hp
              cases e1
              refine lv_istore (lv' := [(5, .int (nI (shW r v c t i ((v i) - (k - 1))))), (4, .int (nI (k - 1))), (0, .ref (ad 0)), (1, .int (nI r)), (2, .int (nI i)), (3, .int (nI (shW r v c t i (v i))))]) hx hb dX1_spare_77 hl (by decide) rfl (fun ls hl => ?_)
              refine lv_goto (tgt := 53) hx hb dX1_spare_79 (by decide) ?_
              exact ih53 (k - 1) Sb3 (by omega) (by omega) (by rw [← hgs, gst_miss (P := (fun m => decide (shW r v c t i (v i - m) = shW r v c t i (v i)))) hk0 (decide_eq_false c56)]) _ _ h _ (lv_sub hl [2, 3, 4, 5, 1, 0] rfl)
        exact L53 _ (v i) Sb2 (Nat.lt_succ_self _) (Nat.le_refl _) rfl _ _ h _ (lv_sub hl [3, 4, 5, 2, 1, 0] rfl)
set_option maxHeartbeats 4000000 in
theorem mY_fall (l : Launch) (D : va_G) (ad : Nat → Nat) (cI : ClassId) (c t : Nat) (v : Nat → Nat) (S K : Nat → Int32) (a : Int32) (hc : c ≤ 6) (ht : t ≤ 30) (hv : ∀ j, j < c → v j ≤ 999) : Mi l D (tyY cI) (WY ad cI) yX1_fall cX1_fall 4 (some .int) 4 97 (ad 0) [.int a] (c, t, v, S, K) (pubY (sp_fall c t v a)) := by
  refine Mi.of (by decide) (Nat.le_of_ble_eq_true rfl) ?_
  intro p e s m args below meth cd A ls Q G hrt h hl hret
  have G : GY D A cI p s m args cd cX1_fall 4 := G
  have h : HY D A ad cI s.heap c t v S K s.heap [] := h
  have hl : lv_has ls 4 [(0, .ref (ad 0)), (1, .int a)] := hl
  have hx := G.1.1
  have hb := G.1.2.1
  have hv3 : ∀ j, j < c → v j ≤ 2999 := fun j hj => by have := hv j hj; omega
  have hal : sumTo v c ≤ 5994 := by have := sumTo_le hv; have h2 : c * 999 ≤ 6 * 999 := Nat.mul_le_mul_right _ hc; omega
  cases ha : ix 7 a with
  | none =>
    refine lv_aload_n hx hb dX1_fall_0 rfl (lv_at hl 0 rfl) ?_
    refine lv_iload_n hx hb dX1_fall_1 rfl (lv_at hl 1 rfl) ?_
    refine y_callr (x := nI 1) G h (mY_noRule1 l D ad cI c t v S K a ha) kY_noRule rfl ⟨Nat.le_of_ble_eq_true rfl, Nat.le_of_ble_eq_true rfl, Nat.le_refl _, Nat.le_refl _⟩ hl.1 rfl (Nat.le_of_ble_eq_true rfl) dX1_fall_2 (fun H locs h => ?_)
    refine n_if_eq (tgt := 10) hx hb dX1_fall_5 (by decide) (by omega) (fun c5 => absurd c5 (by omega)) (fun c5 => ?_)
    refine lv_iconst (v := (-1)) hx hb dX1_fall_8 (by decide) ?_
    exact hret _ _ _ _ _ (c, t, v, S, K) _ h (pubY_i (by simp only [sp_fall, ha])) hrt rfl dX1_fall_9
  | some r =>
    obtain ⟨hr, rfl⟩ := ix_some (by decide) ha
    refine lv_aload_n hx hb dX1_fall_0 rfl (lv_at hl 0 rfl) ?_
    refine lv_iload_n hx hb dX1_fall_1 rfl (lv_at hl 1 rfl) ?_
    refine y_callr (x := nI 0) G h (mY_noRule0 l D ad cI c t v S K r (by omega)) kY_noRule rfl ⟨Nat.le_of_ble_eq_true rfl, Nat.le_of_ble_eq_true rfl, Nat.le_refl _, Nat.le_refl _⟩ hl.1 rfl (Nat.le_of_ble_eq_true rfl) dX1_fall_2 (fun H locs h => ?_)
    refine n_if_eq (tgt := 10) hx hb dX1_fall_5 (by decide) (by omega) (fun c5 => ?_) (fun c5 => absurd c5 (by omega))
    refine lv_aload_n hx hb dX1_fall_10 rfl (lv_at hl 0 rfl) ?_
    refine y_getT G h dX1_fall_11 ?_
    refine lv_istore_n (lv' := [(2, .int (nI t)), (0, .ref (ad 0)), (1, .int (nI r))]) hx hb dX1_fall_14 rfl hl (by decide) rfl (fun ls hl => ?_)
    have L15 : ∀ (n15 : Nat) (nn : Nat) (S1 : Nat → Int32) (K1 : Nat → Int32), 30 - nn < n15 → (t ≤ nn) → (nn ≤ 30) → (lst (flP r v c) (30 - nn) nn = lst (flP r v c) (30 - t) t) → ∀ (H : Heap) (locs : List Loc), HY D A ad cI s.heap c t v S1 K1 H locs → ∀ (ls : Array Slot), lv_has ls 4 [(0, .ref (ad 0)), (1, .int (nI r)), (2, .int (nI nn))] → W p l e (rmm 4 97) s m args below meth cd H locs 0 0 Q (F0 m 15 ls []) := by
      intro n15
      induction n15 with
      | zero =>
        intro nn S1 K1 hm
        exact absurd hm (Nat.not_lt_zero _)
      | succ n15 ih15 =>
        intro nn S1 K1 hm15 hn1 hn2 hls H locs h ls hl
        refine lv_iload_n hx hb dX1_fall_15 rfl (lv_at hl 2 rfl) ?_
        refine lv_bipush (v := (nI 29)) hx hb dX1_fall_16 (by decide) ?_
        refine n_icmp_gt (tgt := 78) hx hb dX1_fall_18 (by decide) (by omega) (by omega) (fun c18 => ?_) (fun c18 => ?_)
        · skip
          refine lv_bipush (v := (-4)) hx hb dX1_fall_78 (by decide) ?_
          exact hret _ _ _ _ _ (c, t, v, S1, K1) _ h (pubY_i (by simp only [sp_fall, ha]; rw [fall_eq, ← hls, show 30 - nn = 0 by omega]; rfl)) hrt rfl dX1_fall_80
        · skip
          refine lv_aload_n hx hb dX1_fall_21 rfl (lv_at hl 0 rfl) ?_
          refine lv_iload_n hx hb dX1_fall_22 rfl (lv_at hl 1 rfl) ?_
          refine lv_iload_n hx hb dX1_fall_23 rfl (lv_at hl 2 rfl) ?_
          refine y_callv G h (mY_give l D ad cI c t v S1 K1 r nn (by omega) hc hv3 (by omega)) kY_give rfl ⟨Nat.le_of_ble_eq_true rfl, Nat.le_of_ble_eq_true rfl, Nat.le_refl _, Nat.le_refl _⟩ hl.1 rfl (Nat.le_of_ble_eq_true rfl) dX1_fall_24 (fun c1 t1 v1 Sa1 K1 H locs hp h => ?_)
          obtain ⟨S2, e1, hSa1⟩ := hp
          cases e1
          refine lv_aload_n hx hb dX1_fall_27 rfl (lv_at hl 0 rfl) ?_
          refine y_callv G h (mY_keep l D ad cI c t v Sa1 K1 hc) kY_keep rfl ⟨Nat.le_of_ble_eq_true rfl, Nat.le_of_ble_eq_true rfl, Nat.le_refl _, Nat.le_refl _⟩ hl.1 rfl (Nat.le_of_ble_eq_true rfl) dX1_fall_28 (fun c1 t1 v1 S1 Ka H locs hp h => ?_)
          obtain ⟨K2, e1, hKa⟩ := hp
          cases e1
          refine lv_aload_n hx hb dX1_fall_31 rfl (lv_at hl 0 rfl) ?_
          refine lv_iload_n hx hb dX1_fall_32 rfl (lv_at hl 1 rfl) ?_
          refine lv_iload_n hx hb dX1_fall_33 rfl (lv_at hl 2 rfl) ?_
          refine lv_iconst (v := (nI 1)) hx hb dX1_fall_34 (by decide) ?_
          refine n_iadd hx hb dX1_fall_35 ?_
          refine y_callv G h (mY_give l D ad cI c t v Sa1 Ka r (nn + 1) (by omega) hc hv3 (by omega)) kY_give rfl ⟨Nat.le_of_ble_eq_true rfl, Nat.le_of_ble_eq_true rfl, Nat.le_refl _, Nat.le_refl _⟩ hl.1 rfl (Nat.le_of_ble_eq_true rfl) dX1_fall_36 (fun c1 t1 v1 Sa2 K1 H locs hp h => ?_)
          obtain ⟨S2, e1, hSa2⟩ := hp
          cases e1
          refine lv_iconst (v := (nI 0)) hx hb dX1_fall_39 (by decide) ?_
          refine lv_istore_n (lv' := [(3, .int (nI 0)), (0, .ref (ad 0)), (1, .int (nI r)), (2, .int (nI nn))]) hx hb dX1_fall_40 rfl hl (by decide) rfl (fun ls hl => ?_)
          have L41 : ∀ (n41 : Nat) (i : Nat), c - i < n41 → (i ≤ c) → (∀ j, j < i → (fun i => decide (sh r v c (nn + 1) i < sh r v c nn i)) j = false) → ∀ (H : Heap) (locs : List Loc), HY D A ad cI s.heap c t v Sa2 Ka H locs → ∀ (ls : Array Slot), lv_has ls 4 [(0, .ref (ad 0)), (1, .int (nI r)), (2, .int (nI nn)), (3, .int (nI i))] → W p l e (rmm 4 97) s m args below meth cd H locs 0 0 Q (F0 m 41 ls []) := by
            intro n41
            induction n41 with
            | zero =>
              intro i hm
              exact absurd hm (Nat.not_lt_zero _)
            | succ n41 ih41 =>
              intro i hm41 hi hno H locs h ls hl
              refine lv_iload_n hx hb dX1_fall_41 rfl (lv_at hl 3 rfl) ?_
              refine lv_aload_n hx hb dX1_fall_42 rfl (lv_at hl 0 rfl) ?_
              refine y_getC G h dX1_fall_43 ?_
              refine n_icmp_ge (tgt := 72) hx hb dX1_fall_46 (by decide) (by omega) (by omega) (fun c46 => ?_) (fun c46 => ?_)
              · skip
                refine lv_iinc (v := nI (nn + 1)) (lv' := [(2, .int (nI (nn + 1))), (0, .ref (ad 0)), (1, .int (nI r)), (3, .int (nI i))]) hx hb dX1_fall_72 hl (k := 2) rfl (inc1 _) (by decide) rfl (fun ls hl => ?_)
                refine lv_goto (tgt := 15) hx hb dX1_fall_75 (by decide) ?_
                exact ih15 (nn + 1) Sa2 Ka (by omega) (by omega) (by omega) (by rw [← hls, lst_miss (P := flP r v c) (f := 30 - nn) (k := nn) (by omega) (anyTo_f (fun j hj => hno j (by omega)))]; rfl) _ _ h _ (lv_sub hl [1, 2, 0] rfl)
              · skip
                refine lv_aload_n hx hb dX1_fall_49 rfl (lv_at hl 0 rfl) ?_
                refine y_getS G h dX1_fall_50 ?_
                refine lv_iload_n hx hb dX1_fall_53 rfl (lv_at hl 3 rfl) ?_
                refine y_ldS (x := (nI (sh r v c (nn + 1) i))) G h (by omega) (hSa2 _ (by omega)) dX1_fall_54 ?_
                refine lv_aload_n hx hb dX1_fall_55 rfl (lv_at hl 0 rfl) ?_
                refine y_getK G h dX1_fall_56 ?_
                refine lv_iload_n hx hb dX1_fall_59 rfl (lv_at hl 3 rfl) ?_
                refine y_ldK (x := (nI (sh r v c nn i))) G h (by omega) ((hKa _ (by omega)).trans (hSa1 _ (by omega))) dX1_fall_60 ?_
                refine n_icmp_ge (tgt := 66) hx hb dX1_fall_61 (by decide) (by have q1 := sh_le (r := r) (v := v) (n := nn + 1) (show i < c by omega); omega) (by have q1 := sh_le (r := r) (v := v) (n := nn) (show i < c by omega); omega) (fun c61 => ?_) (fun c61 => ?_)
                · skip
                  refine lv_iinc (v := nI (i + 1)) (lv' := [(3, .int (nI (i + 1))), (0, .ref (ad 0)), (1, .int (nI r)), (2, .int (nI nn))]) hx hb dX1_fall_66 hl (k := 3) rfl (inc1 _) (by decide) rfl (fun ls hl => ?_)
                  refine lv_goto (tgt := 41) hx hb dX1_fall_69 (by decide) ?_
                  exact ih41 (i + 1) (by omega) (by omega) (lt_s hno (decide_eq_false (by omega))) _ _ h _ (lv_sub hl [1, 2, 3, 0] rfl)
                · skip
                  refine lv_iload_n hx hb dX1_fall_64 rfl (lv_at hl 2 rfl) ?_
                  exact hret _ _ _ _ _ (c, t, v, Sa2, Ka) _ h (pubY_i (by simp only [sp_fall, ha]; rw [fall_eq, ← hls, lst_hit (P := flP r v c) (f := 30 - nn) (k := nn) (by omega) (anyTo_t (i := i) (by omega) (decide_eq_true c61))]; rfl)) hrt rfl dX1_fall_65
          exact L41 _ 0 (Nat.lt_succ_self _) (Nat.zero_le _) (fun j h => absurd h (Nat.not_lt_zero _)) _ _ h _ (lv_sub hl [1, 2, 3, 0] rfl)
    exact L15 _ t S K (Nat.lt_succ_self _) (Nat.le_refl _) (by omega) rfl _ _ h _ (lv_sub hl [1, 2, 0] rfl)
set_option maxHeartbeats 4000000 in
theorem mY_outside (l : Launch) (D : va_G) (ad : Nat → Nat) (cI : ClassId) (c t : Nat) (v : Nat → Nat) (S K : Nat → Int32) (a : Int32) (hc : c ≤ 6) (ht : t ≤ 30) (hv : ∀ j, j < c → v j ≤ 999) : Mi l D (tyY cI) (WY ad cI) yX1_outside cX1_outside 7 (some .int) 4 97 (ad 0) [.int a] (c, t, v, S, K) (pubY (sp_outside c t v a)) := by
  refine Mi.of (by decide) (Nat.le_of_ble_eq_true rfl) ?_
  intro p e s m args below meth cd A ls Q G hrt h hl hret
  have G : GY D A cI p s m args cd cX1_outside 7 := G
  have h : HY D A ad cI s.heap c t v S K s.heap [] := h
  have hl : lv_has ls 7 [(0, .ref (ad 0)), (1, .int a)] := hl
  have hx := G.1.1
  have hb := G.1.2.1
  have hv3 : ∀ j, j < c → v j ≤ 2999 := fun j hj => by have := hv j hj; omega
  have hal : sumTo v c ≤ 5994 := by have := sumTo_le hv; have h2 : c * 999 ≤ 6 * 999 := Nat.mul_le_mul_right _ hc; omega
  cases ha : ix 7 a with
  | none =>
    refine lv_aload_n hx hb dX1_outside_0 rfl (lv_at hl 0 rfl) ?_
    refine lv_iload_n hx hb dX1_outside_1 rfl (lv_at hl 1 rfl) ?_
    refine y_callr (x := nI 1) G h (mY_noRule1 l D ad cI c t v S K a ha) kY_noRule rfl ⟨Nat.le_of_ble_eq_true rfl, Nat.le_of_ble_eq_true rfl, Nat.le_refl _, Nat.le_refl _⟩ hl.1 rfl (Nat.le_of_ble_eq_true rfl) dX1_outside_2 (fun H locs h => ?_)
    refine n_if_eq (tgt := 10) hx hb dX1_outside_5 (by decide) (by omega) (fun c5 => absurd c5 (by omega)) (fun c5 => ?_)
    refine lv_iconst (v := (-1)) hx hb dX1_outside_8 (by decide) ?_
    exact hret _ _ _ _ _ (c, t, v, S, K) _ h (pubY_i (by simp only [sp_outside, ha])) hrt rfl dX1_outside_9
  | some r =>
    obtain ⟨hr, rfl⟩ := ix_some (by decide) ha
    refine lv_aload_n hx hb dX1_outside_0 rfl (lv_at hl 0 rfl) ?_
    refine lv_iload_n hx hb dX1_outside_1 rfl (lv_at hl 1 rfl) ?_
    refine y_callr (x := nI 0) G h (mY_noRule0 l D ad cI c t v S K r (by omega)) kY_noRule rfl ⟨Nat.le_of_ble_eq_true rfl, Nat.le_of_ble_eq_true rfl, Nat.le_refl _, Nat.le_refl _⟩ hl.1 rfl (Nat.le_of_ble_eq_true rfl) dX1_outside_2 (fun H locs h => ?_)
    refine n_if_eq (tgt := 10) hx hb dX1_outside_5 (by decide) (by omega) (fun c5 => ?_) (fun c5 => absurd c5 (by omega))
    refine lv_aload_n hx hb dX1_outside_10 rfl (lv_at hl 0 rfl) ?_
    refine y_callr (x := (nI (sumTo v c))) G h (mY_votes l D ad cI c t v S K hc) kY_votes rfl ⟨Nat.le_of_ble_eq_true rfl, Nat.le_of_ble_eq_true rfl, Nat.le_refl _, Nat.le_refl _⟩ hl.1 rfl (Nat.le_of_ble_eq_true rfl) dX1_outside_11 (fun H locs h => ?_)
    refine lv_istore_n (lv' := [(2, .int (nI (sumTo v c))), (0, .ref (ad 0)), (1, .int (nI r))]) hx hb dX1_outside_14 rfl hl (by decide) rfl (fun ls hl => ?_)
    refine lv_iload_n hx hb dX1_outside_15 rfl (lv_at hl 0 rfl) ?_
    refine n_if_ne (tgt := 21) hx hb dX1_outside_16 (by decide) (by omega) (fun c16 => ?_) (fun c16 => ?_)
    · skip
      refine lv_aload_n hx hb dX1_outside_21 rfl (lv_at hl 1 rfl) ?_
      refine lv_iload_n hx hb dX1_outside_22 rfl (lv_at hl 2 rfl) ?_
      refine lv_aload_n hx hb dX1_outside_23 rfl (lv_at hl 1 rfl) ?_
      refine y_getT G h dX1_outside_24 ?_
      refine y_callv G h (mY_give l D ad cI c t v S K r t (by omega) hc hv3 (by omega)) kY_give rfl ⟨Nat.le_of_ble_eq_true rfl, Nat.le_of_ble_eq_true rfl, Nat.le_refl _, Nat.le_refl _⟩ hl.1 rfl (Nat.le_of_ble_eq_true rfl) dX1_outside_27 (fun c1 t1 v1 Sa1 K1 H locs hp h => ?_)
      obtain ⟨S2, e1, hSa1⟩ := hp
      cases e1
      refine lv_iconst (v := (nI 0)) hx hb dX1_outside_30 (by decide) ?_
      refine lv_istore_n (lv' := [(3, .int (nI 0)), (2, .int (nI (sumTo v c))), (0, .ref (ad 0)), (1, .int (nI r))]) hx hb dX1_outside_31 rfl hl (by decide) rfl (fun ls hl => ?_)
      refine lv_iconst (v := (nI 0)) hx hb dX1_outside_32 (by decide) ?_
      refine lv_istore (lv' := [(4, .int (nI 0)), (3, .int (nI 0)), (2, .int (nI (sumTo v c))), (0, .ref (ad 0)), (1, .int (nI r))]) hx hb dX1_outside_33 hl (by decide) rfl (fun ls hl => ?_)
      have L35 : ∀ (n35 : Nat) (i : Nat) (mm : Nat), c - i < n35 → (i ≤ c) → (mm = cntB (ouP (sh r v c t) v t (sumTo v c)) i) → ∀ (H : Heap) (locs : List Loc), HY D A ad cI s.heap c t v Sa1 K H locs → ∀ (ls : Array Slot), lv_has ls 7 [(0, .ref (ad 0)), (1, .int (nI r)), (2, .int (nI (sumTo v c))), (3, .int (nI mm)), (4, .int (nI i))] → W p l e (rmm 4 97) s m args below meth cd H locs 0 0 Q (F0 m 35 ls []) := by
        intro n35
        induction n35 with
        | zero =>
          intro i mm hm
          exact absurd hm (Nat.not_lt_zero _)
        | succ n35 ih35 =>
          intro i mm hm35 hi hmm H locs h ls hl
          refine lv_iload hx hb dX1_outside_35 (lv_at hl 4 rfl) ?_
          refine lv_aload_n hx hb dX1_outside_37 rfl (lv_at hl 0 rfl) ?_
          refine y_getC G h dX1_outside_38 ?_
          refine n_icmp_ge (tgt := 113) hx hb dX1_outside_41 (by decide) (by omega) (by omega) (fun c41 => ?_) (fun c41 => ?_)
          · skip
            refine lv_iload_n hx hb dX1_outside_113 rfl (lv_at hl 3 rfl) ?_
            exact hret _ _ _ _ _ (c, t, v, Sa1, K) _ h (pubY_i (by rw [hmm, show i = c by omega]; simp only [sp_outside, ha])) hrt rfl dX1_outside_114
          · skip
            have q1 := Nat.mul_le_mul ht (hv i (by omega))
            have q2 := sh_le (r := r) (v := v) (n := t) (show i < c by omega)
            have q3 := Nat.div_le_self (t * v i) (sumTo v c)
            have q4 := Nat.div_le_self (t * v i + sumTo v c - 1) (sumTo v c)
            refine lv_aload_n hx hb dX1_outside_44 rfl (lv_at hl 0 rfl) ?_
            refine y_getT G h dX1_outside_45 ?_
            refine lv_aload_n hx hb dX1_outside_48 rfl (lv_at hl 0 rfl) ?_
            refine y_getV G h dX1_outside_49 ?_
            refine lv_iload hx hb dX1_outside_52 (lv_at hl 4 rfl) ?_
            refine y_ldV G h (by omega) dX1_outside_54 ?_
            refine n_imul hx hb dX1_outside_55 ?_
            refine lv_iload_n hx hb dX1_outside_56 rfl (lv_at hl 2 rfl) ?_
            refine n_idiv hx hb dX1_outside_57 (by omega) (by omega) (by omega) ?_
            refine lv_istore (lv' := [(5, .int (nI ((t * (v i)) / (sumTo v c)))), (0, .ref (ad 0)), (1, .int (nI r)), (2, .int (nI (sumTo v c))), (3, .int (nI mm)), (4, .int (nI i))]) hx hb dX1_outside_58 hl (by decide) rfl (fun ls hl => ?_)
            refine lv_aload_n hx hb dX1_outside_60 rfl (lv_at hl 1 rfl) ?_
            refine y_getT G h dX1_outside_61 ?_
            refine lv_aload_n hx hb dX1_outside_64 rfl (lv_at hl 1 rfl) ?_
            refine y_getV G h dX1_outside_65 ?_
            refine lv_iload hx hb dX1_outside_68 (lv_at hl 5 rfl) ?_
            refine y_ldV G h (by omega) dX1_outside_70 ?_
            refine n_imul hx hb dX1_outside_71 ?_
            refine lv_iload_n hx hb dX1_outside_72 rfl (lv_at hl 3 rfl) ?_
            refine n_iadd hx hb dX1_outside_73 ?_
            refine lv_iconst (v := (nI 1)) hx hb dX1_outside_74 (by decide) ?_
            refine n_isub hx hb dX1_outside_75 (by omega) ?_
            refine lv_iload_n hx hb dX1_outside_76 rfl (lv_at hl 3 rfl) ?_
            refine n_idiv hx hb dX1_outside_77 (by omega) (by omega) (by omega) ?_
            refine lv_istore (lv' := [(6, .int (nI ((((t * (v i)) + (sumTo v c)) - 1) / (sumTo v c)))), (5, .int (nI ((t * (v i)) / (sumTo v c)))), (0, .ref (ad 0)), (1, .int (nI r)), (2, .int (nI (sumTo v c))), (3, .int (nI mm)), (4, .int (nI i))]) hx hb dX1_outside_78 hl (by decide) rfl (fun ls hl => ?_)
            refine lv_aload_n hx hb dX1_outside_80 rfl (lv_at hl 2 rfl) ?_
            refine y_getS G h dX1_outside_81 ?_
            refine lv_iload hx hb dX1_outside_84 (lv_at hl 6 rfl) ?_
            refine y_ldS (x := (nI (sh r v c t i))) G h (by omega) (hSa1 _ (by omega)) dX1_outside_86 ?_
            refine lv_iload hx hb dX1_outside_87 (lv_at hl 1 rfl) ?_
            refine n_icmp_lt (tgt := 104) hx hb dX1_outside_89 (by decide) (by omega) (by omega) (fun c89 => ?_) (fun c89 => ?_)
            · skip
              refine lv_iinc (v := nI (mm + 1)) (lv' := [(3, .int (nI (mm + 1))), (6, .int (nI ((((t * (v i)) + (sumTo v c)) - 1) / (sumTo v c)))), (5, .int (nI ((t * (v i)) / (sumTo v c)))), (0, .ref (ad 0)), (1, .int (nI r)), (2, .int (nI (sumTo v c))), (4, .int (nI i))]) hx hb dX1_outside_104 hl (k := 5) rfl (inc1 _) (by decide) rfl (fun ls hl => ?_)
              refine lv_iinc (v := nI (i + 1)) (lv' := [(4, .int (nI (i + 1))), (3, .int (nI (mm + 1))), (6, .int (nI ((((t * (v i)) + (sumTo v c)) - 1) / (sumTo v c)))), (5, .int (nI ((t * (v i)) / (sumTo v c)))), (0, .ref (ad 0)), (1, .int (nI r)), (2, .int (nI (sumTo v c)))]) hx hb dX1_outside_107 hl (k := 6) rfl (inc1 _) (by decide) rfl (fun ls hl => ?_)
              refine lv_goto (tgt := 35) hx hb dX1_outside_110 (by decide) ?_
              exact ih35 (i + 1) (mm + 1) (by omega) (by omega) (by rw [cntB_1 (P := ouP (sh r v c t) v t (sumTo v c)) (decide_eq_true ⟨c16, Or.inl ((far_lo c16).mp c89)⟩), hmm]) _ _ h _ (lv_sub hl [4, 5, 6, 1, 0] rfl)
            · skip
              refine lv_aload_n hx hb dX1_outside_92 rfl (lv_at hl 2 rfl) ?_
              refine y_getS G h dX1_outside_93 ?_
              refine lv_iload hx hb dX1_outside_96 (lv_at hl 6 rfl) ?_
              refine y_ldS (x := (nI (sh r v c t i))) G h (by omega) (hSa1 _ (by omega)) dX1_outside_98 ?_
              refine lv_iload hx hb dX1_outside_99 (lv_at hl 0 rfl) ?_
              refine n_icmp_le (tgt := 107) hx hb dX1_outside_101 (by decide) (by omega) (by omega) (fun c101 => ?_) (fun c101 => ?_)
              · skip
                refine lv_iinc (v := nI (i + 1)) (lv' := [(4, .int (nI (i + 1))), (6, .int (nI ((((t * (v i)) + (sumTo v c)) - 1) / (sumTo v c)))), (5, .int (nI ((t * (v i)) / (sumTo v c)))), (0, .ref (ad 0)), (1, .int (nI r)), (2, .int (nI (sumTo v c))), (3, .int (nI mm))]) hx hb dX1_outside_107 hl (k := 6) rfl (inc1 _) (by decide) rfl (fun ls hl => ?_)
                refine lv_goto (tgt := 35) hx hb dX1_outside_110 (by decide) ?_
                exact ih35 (i + 1) mm (by omega) (by omega) (by rw [cntB_0 (P := ouP (sh r v c t) v t (sumTo v c)) (decide_eq_false (fun z => z.2.elim (fun y => absurd ((far_lo c16).mpr y) (Nat.not_lt.mpr c89)) (fun y => absurd ((far_hi c16).mpr y) (Nat.not_lt.mpr c101)))), hmm]) _ _ h _ (lv_sub hl [3, 4, 5, 6, 0] rfl)
              · skip
                refine lv_iinc (v := nI (mm + 1)) (lv' := [(3, .int (nI (mm + 1))), (6, .int (nI ((((t * (v i)) + (sumTo v c)) - 1) / (sumTo v c)))), (5, .int (nI ((t * (v i)) / (sumTo v c)))), (0, .ref (ad 0)), (1, .int (nI r)), (2, .int (nI (sumTo v c))), (4, .int (nI i))]) hx hb dX1_outside_104 hl (k := 5) rfl (inc1 _) (by decide) rfl (fun ls hl => ?_)
                refine lv_iinc (v := nI (i + 1)) (lv' := [(4, .int (nI (i + 1))), (3, .int (nI (mm + 1))), (6, .int (nI ((((t * (v i)) + (sumTo v c)) - 1) / (sumTo v c)))), (5, .int (nI ((t * (v i)) / (sumTo v c)))), (0, .ref (ad 0)), (1, .int (nI r)), (2, .int (nI (sumTo v c)))]) hx hb dX1_outside_107 hl (k := 6) rfl (inc1 _) (by decide) rfl (fun ls hl => ?_)
                refine lv_goto (tgt := 35) hx hb dX1_outside_110 (by decide) ?_
                exact ih35 (i + 1) (mm + 1) (by omega) (by omega) (by rw [cntB_1 (P := ouP (sh r v c t) v t (sumTo v c)) (decide_eq_true ⟨c16, Or.inr ((far_hi c16).mp c101)⟩), hmm]) _ _ h _ (lv_sub hl [4, 5, 6, 1, 0] rfl)
      exact L35 _ 0 0 (Nat.lt_succ_self _) (Nat.zero_le _) rfl _ _ h _ (lv_sub hl [3, 4, 2, 1, 0] rfl)
    · skip
      refine lv_iconst (v := (nI 0)) hx hb dX1_outside_19 (by decide) ?_
      exact hret _ _ _ _ _ (c, t, v, S, K) _ h (pubY_i (by simp only [sp_outside, ha]; rw [cntB_n (P := ouP (sh r v c t) v t (sumTo v c)) (fun j _ => decide_eq_false (fun z => by omega))])) hrt rfl dX1_outside_20
set_option maxHeartbeats 4000000 in
theorem mY_moved (l : Launch) (D : va_G) (ad : Nat → Nat) (cI : ClassId) (c t : Nat) (v : Nat → Nat) (S K : Nat → Int32) (a b : Int32) (hc : c ≤ 6) (ht : t ≤ 30) (hv : ∀ j, j < c → v j ≤ 999) : Mi l D (tyY cI) (WY ad cI) yX1_moved cX1_moved 5 (some .int) 4 97 (ad 0) [.int a, .int b] (c, t, v, S, K) (pubY (sp_moved c t v a b)) := by
  refine Mi.of (by decide) (Nat.le_of_ble_eq_true rfl) ?_
  intro p e s m args below meth cd A ls Q G hrt h hl hret
  have G : GY D A cI p s m args cd cX1_moved 5 := G
  have h : HY D A ad cI s.heap c t v S K s.heap [] := h
  have hl : lv_has ls 5 [(0, .ref (ad 0)), (1, .int a), (2, .int b)] := hl
  have hx := G.1.1
  have hb := G.1.2.1
  have hv3 : ∀ j, j < c → v j ≤ 2999 := fun j hj => by have := hv j hj; omega
  have hal : sumTo v c ≤ 5994 := by have := sumTo_le hv; have h2 : c * 999 ≤ 6 * 999 := Nat.mul_le_mul_right _ hc; omega
  cases ha : ix 7 a with
  | none =>
    refine lv_aload_n hx hb dX1_moved_0 rfl (lv_at hl 0 rfl) ?_
    refine lv_iload_n hx hb dX1_moved_1 rfl (lv_at hl 1 rfl) ?_
    refine y_callr (x := nI 1) G h (mY_noRule1 l D ad cI c t v S K a ha) kY_noRule rfl ⟨Nat.le_of_ble_eq_true rfl, Nat.le_of_ble_eq_true rfl, Nat.le_refl _, Nat.le_refl _⟩ hl.1 rfl (Nat.le_of_ble_eq_true rfl) dX1_moved_2 (fun H locs h => ?_)
    refine n_if_ne (tgt := 16) hx hb dX1_moved_5 (by decide) (by omega) (fun c5 => ?_) (fun c5 => absurd c5 (by omega))
    refine lv_iconst (v := (-1)) hx hb dX1_moved_16 (by decide) ?_
    exact hret _ _ _ _ _ (c, t, v, S, K) _ h (pubY_i (by simp only [sp_moved, ha])) hrt rfl dX1_moved_17
  | some r =>
    obtain ⟨hr, rfl⟩ := ix_some (by decide) ha
    cases hb2 : ix 7 b with
    | none =>
      refine lv_aload_n hx hb dX1_moved_0 rfl (lv_at hl 0 rfl) ?_
      refine lv_iload_n hx hb dX1_moved_1 rfl (lv_at hl 1 rfl) ?_
      refine y_callr (x := nI 0) G h (mY_noRule0 l D ad cI c t v S K r (by omega)) kY_noRule rfl ⟨Nat.le_of_ble_eq_true rfl, Nat.le_of_ble_eq_true rfl, Nat.le_refl _, Nat.le_refl _⟩ hl.1 rfl (Nat.le_of_ble_eq_true rfl) dX1_moved_2 (fun H locs h => ?_)
      refine n_if_ne (tgt := 16) hx hb dX1_moved_5 (by decide) (by omega) (fun c5 => absurd c5 (by omega)) (fun c5 => ?_)
      refine lv_aload_n hx hb dX1_moved_8 rfl (lv_at hl 0 rfl) ?_
      refine lv_iload_n hx hb dX1_moved_9 rfl (lv_at hl 2 rfl) ?_
      refine y_callr (x := nI 1) G h (mY_noRule1 l D ad cI c t v S K b hb2) kY_noRule rfl ⟨Nat.le_of_ble_eq_true rfl, Nat.le_of_ble_eq_true rfl, Nat.le_refl _, Nat.le_refl _⟩ hl.1 rfl (Nat.le_of_ble_eq_true rfl) dX1_moved_10 (fun H locs h => ?_)
      refine n_if_eq (tgt := 18) hx hb dX1_moved_13 (by decide) (by omega) (fun c13 => absurd c13 (by omega)) (fun c13 => ?_)
      refine lv_iconst (v := (-1)) hx hb dX1_moved_16 (by decide) ?_
      exact hret _ _ _ _ _ (c, t, v, S, K) _ h (pubY_i (by simp only [sp_moved, ha, hb2])) hrt rfl dX1_moved_17
    | some q =>
      obtain ⟨hq, rfl⟩ := ix_some (by decide) hb2
      refine lv_aload_n hx hb dX1_moved_0 rfl (lv_at hl 0 rfl) ?_
      refine lv_iload_n hx hb dX1_moved_1 rfl (lv_at hl 1 rfl) ?_
      refine y_callr (x := nI 0) G h (mY_noRule0 l D ad cI c t v S K r (by omega)) kY_noRule rfl ⟨Nat.le_of_ble_eq_true rfl, Nat.le_of_ble_eq_true rfl, Nat.le_refl _, Nat.le_refl _⟩ hl.1 rfl (Nat.le_of_ble_eq_true rfl) dX1_moved_2 (fun H locs h => ?_)
      refine n_if_ne (tgt := 16) hx hb dX1_moved_5 (by decide) (by omega) (fun c5 => absurd c5 (by omega)) (fun c5 => ?_)
      refine lv_aload_n hx hb dX1_moved_8 rfl (lv_at hl 0 rfl) ?_
      refine lv_iload_n hx hb dX1_moved_9 rfl (lv_at hl 2 rfl) ?_
      refine y_callr (x := nI 0) G h (mY_noRule0 l D ad cI c t v S K q (by omega)) kY_noRule rfl ⟨Nat.le_of_ble_eq_true rfl, Nat.le_of_ble_eq_true rfl, Nat.le_refl _, Nat.le_refl _⟩ hl.1 rfl (Nat.le_of_ble_eq_true rfl) dX1_moved_10 (fun H locs h => ?_)
      refine n_if_eq (tgt := 18) hx hb dX1_moved_13 (by decide) (by omega) (fun c13 => ?_) (fun c13 => absurd c13 (by omega))
      refine lv_aload_n hx hb dX1_moved_18 rfl (lv_at hl 0 rfl) ?_
      refine lv_iload_n hx hb dX1_moved_19 rfl (lv_at hl 1 rfl) ?_
      refine lv_aload_n hx hb dX1_moved_20 rfl (lv_at hl 0 rfl) ?_
      refine y_getT G h dX1_moved_21 ?_
      refine y_callv G h (mY_give l D ad cI c t v S K r t (by omega) hc hv3 (by omega)) kY_give rfl ⟨Nat.le_of_ble_eq_true rfl, Nat.le_of_ble_eq_true rfl, Nat.le_refl _, Nat.le_refl _⟩ hl.1 rfl (Nat.le_of_ble_eq_true rfl) dX1_moved_24 (fun c1 t1 v1 Sa1 K1 H locs hp h => ?_)
      obtain ⟨S2, e1, hSa1⟩ := hp
      cases e1
      refine lv_aload_n hx hb dX1_moved_27 rfl (lv_at hl 0 rfl) ?_
      refine y_callv G h (mY_keep l D ad cI c t v Sa1 K hc) kY_keep rfl ⟨Nat.le_of_ble_eq_true rfl, Nat.le_of_ble_eq_true rfl, Nat.le_refl _, Nat.le_refl _⟩ hl.1 rfl (Nat.le_of_ble_eq_true rfl) dX1_moved_28 (fun c1 t1 v1 S1 Ka H locs hp h => ?_)
      obtain ⟨K2, e1, hKa⟩ := hp
      cases e1
      refine lv_aload_n hx hb dX1_moved_31 rfl (lv_at hl 0 rfl) ?_
      refine lv_iload_n hx hb dX1_moved_32 rfl (lv_at hl 2 rfl) ?_
      refine lv_aload_n hx hb dX1_moved_33 rfl (lv_at hl 0 rfl) ?_
      refine y_getT G h dX1_moved_34 ?_
      refine y_callv G h (mY_give l D ad cI c t v Sa1 Ka q t (by omega) hc hv3 (by omega)) kY_give rfl ⟨Nat.le_of_ble_eq_true rfl, Nat.le_of_ble_eq_true rfl, Nat.le_refl _, Nat.le_refl _⟩ hl.1 rfl (Nat.le_of_ble_eq_true rfl) dX1_moved_37 (fun c1 t1 v1 Sa2 K1 H locs hp h => ?_)
      obtain ⟨S2, e1, hSa2⟩ := hp
      cases e1
      refine lv_iconst (v := (nI 0)) hx hb dX1_moved_40 (by decide) ?_
      refine lv_istore_n (lv' := [(3, .int (nI 0)), (0, .ref (ad 0)), (1, .int (nI r)), (2, .int (nI q))]) hx hb dX1_moved_41 rfl hl (by decide) rfl (fun ls hl => ?_)
      refine lv_iconst (v := (nI 0)) hx hb dX1_moved_42 (by decide) ?_
      refine lv_istore (lv' := [(4, .int (nI 0)), (3, .int (nI 0)), (0, .ref (ad 0)), (1, .int (nI r)), (2, .int (nI q))]) hx hb dX1_moved_43 hl (by decide) rfl (fun ls hl => ?_)
      have L45 : ∀ (n45 : Nat) (i : Nat) (sm : Nat), c - i < n45 → (i ≤ c) → (sm = sumTo (fun i => sh q v c t i - sh r v c t i) i) → ∀ (H : Heap) (locs : List Loc), HY D A ad cI s.heap c t v Sa2 Ka H locs → ∀ (ls : Array Slot), lv_has ls 5 [(0, .ref (ad 0)), (1, .int (nI r)), (2, .int (nI q)), (3, .int (nI sm)), (4, .int (nI i))] → W p l e (rmm 4 97) s m args below meth cd H locs 0 0 Q (F0 m 45 ls []) := by
        intro n45
        induction n45 with
        | zero =>
          intro i sm hm
          exact absurd hm (Nat.not_lt_zero _)
        | succ n45 ih45 =>
          intro i sm hm45 hi hsm H locs h ls hl
          refine lv_iload hx hb dX1_moved_45 (lv_at hl 4 rfl) ?_
          refine lv_aload_n hx hb dX1_moved_47 rfl (lv_at hl 0 rfl) ?_
          refine y_getC G h dX1_moved_48 ?_
          refine n_icmp_ge (tgt := 95) hx hb dX1_moved_51 (by decide) (by omega) (by omega) (fun c51 => ?_) (fun c51 => ?_)
          · skip
            refine lv_iload_n hx hb dX1_moved_95 rfl (lv_at hl 3 rfl) ?_
            exact hret _ _ _ _ _ (c, t, v, Sa2, Ka) _ h (pubY_i (by rw [hsm, show i = c by omega]; simp only [sp_moved, ha, hb2])) hrt rfl dX1_moved_96
          · skip
            refine lv_aload_n hx hb dX1_moved_54 rfl (lv_at hl 0 rfl) ?_
            refine y_getS G h dX1_moved_55 ?_
            refine lv_iload hx hb dX1_moved_58 (lv_at hl 4 rfl) ?_
            refine y_ldS (x := (nI (sh q v c t i))) G h (by omega) (hSa2 _ (by omega)) dX1_moved_60 ?_
            refine lv_aload_n hx hb dX1_moved_61 rfl (lv_at hl 0 rfl) ?_
            refine y_getK G h dX1_moved_62 ?_
            refine lv_iload hx hb dX1_moved_65 (lv_at hl 4 rfl) ?_
            refine y_ldK (x := (nI (sh r v c t i))) G h (by omega) ((hKa _ (by omega)).trans (hSa1 _ (by omega))) dX1_moved_67 ?_
            refine n_icmp_le (tgt := 89) hx hb dX1_moved_68 (by decide) (by have q1 := sh_le (r := q) (v := v) (n := t) (show i < c by omega); omega) (by have q1 := sh_le (r := r) (v := v) (n := t) (show i < c by omega); omega) (fun c68 => ?_) (fun c68 => ?_)
            · skip
              refine lv_iinc (v := nI (i + 1)) (lv' := [(4, .int (nI (i + 1))), (0, .ref (ad 0)), (1, .int (nI r)), (2, .int (nI q)), (3, .int (nI sm))]) hx hb dX1_moved_89 hl (k := 4) rfl (inc1 _) (by decide) rfl (fun ls hl => ?_)
              refine lv_goto (tgt := 45) hx hb dX1_moved_92 (by decide) ?_
              exact ih45 (i + 1) sm (by omega) (by omega) (by have e1 : sumTo (fun i => sh q v c t i - sh r v c t i) (i + 1) = sumTo (fun i => sh q v c t i - sh r v c t i) i + (sh q v c t i - sh r v c t i) := rfl; omega) _ _ h _ (lv_sub hl [1, 2, 3, 4, 0] rfl)
            · skip
              refine lv_iload_n hx hb dX1_moved_71 rfl (lv_at hl 3 rfl) ?_
              refine lv_aload_n hx hb dX1_moved_72 rfl (lv_at hl 0 rfl) ?_
              refine y_getS G h dX1_moved_73 ?_
              refine lv_iload hx hb dX1_moved_76 (lv_at hl 4 rfl) ?_
              refine y_ldS (x := (nI (sh q v c t i))) G h (by omega) (hSa2 _ (by omega)) dX1_moved_78 ?_
              refine lv_aload_n hx hb dX1_moved_79 rfl (lv_at hl 0 rfl) ?_
              refine y_getK G h dX1_moved_80 ?_
              refine lv_iload hx hb dX1_moved_83 (lv_at hl 4 rfl) ?_
              refine y_ldK (x := (nI (sh r v c t i))) G h (by omega) ((hKa _ (by omega)).trans (hSa1 _ (by omega))) dX1_moved_85 ?_
              refine n_isub hx hb dX1_moved_86 (by omega) ?_
              refine n_iadd hx hb dX1_moved_87 ?_
              refine lv_istore_n (lv' := [(3, .int (nI (sm + ((sh q v c t i) - (sh r v c t i))))), (0, .ref (ad 0)), (1, .int (nI r)), (2, .int (nI q)), (4, .int (nI i))]) hx hb dX1_moved_88 rfl hl (by decide) rfl (fun ls hl => ?_)
              refine lv_iinc (v := nI (i + 1)) (lv' := [(4, .int (nI (i + 1))), (3, .int (nI (sm + ((sh q v c t i) - (sh r v c t i))))), (0, .ref (ad 0)), (1, .int (nI r)), (2, .int (nI q))]) hx hb dX1_moved_89 hl (k := 4) rfl (inc1 _) (by decide) rfl (fun ls hl => ?_)
              refine lv_goto (tgt := 45) hx hb dX1_moved_92 (by decide) ?_
              exact ih45 (i + 1) (sm + ((sh q v c t i) - (sh r v c t i))) (by omega) (by omega) (by have e1 : sumTo (fun i => sh q v c t i - sh r v c t i) (i + 1) = sumTo (fun i => sh q v c t i - sh r v c t i) i + (sh q v c t i - sh r v c t i) := rfl; omega) _ _ h _ (lv_sub hl [2, 3, 4, 1, 0] rfl)
      exact L45 _ 0 0 (Nat.lt_succ_self _) (Nat.zero_le _) rfl _ _ h _ (lv_sub hl [2, 3, 4, 1, 0] rfl)
set_option maxHeartbeats 4000000 in
theorem mY_majority (l : Launch) (D : va_G) (ad : Nat → Nat) (cI : ClassId) (c t : Nat) (v : Nat → Nat) (S K : Nat → Int32) (a : Int32) (hc : c ≤ 6) (ht : t ≤ 30) (hv : ∀ j, j < c → v j ≤ 999) : Mi l D (tyY cI) (WY ad cI) yX1_majority cX1_majority 7 (some .int) 4 97 (ad 0) [.int a] (c, t, v, S, K) (pubY (sp_majority c t v a)) := by
  refine Mi.of (by decide) (Nat.le_of_ble_eq_true rfl) ?_
  intro p e s m args below meth cd A ls Q G hrt h hl hret
  have G : GY D A cI p s m args cd cX1_majority 7 := G
  have h : HY D A ad cI s.heap c t v S K s.heap [] := h
  have hl : lv_has ls 7 [(0, .ref (ad 0)), (1, .int a)] := hl
  have hx := G.1.1
  have hb := G.1.2.1
  have hv3 : ∀ j, j < c → v j ≤ 2999 := fun j hj => by have := hv j hj; omega
  have hal : sumTo v c ≤ 5994 := by have := sumTo_le hv; have h2 : c * 999 ≤ 6 * 999 := Nat.mul_le_mul_right _ hc; omega
  cases ha : ix 7 a with
  | none =>
    refine lv_aload_n hx hb dX1_majority_0 rfl (lv_at hl 0 rfl) ?_
    refine lv_iload_n hx hb dX1_majority_1 rfl (lv_at hl 1 rfl) ?_
    refine y_callr (x := nI 1) G h (mY_noRule1 l D ad cI c t v S K a ha) kY_noRule rfl ⟨Nat.le_of_ble_eq_true rfl, Nat.le_of_ble_eq_true rfl, Nat.le_refl _, Nat.le_refl _⟩ hl.1 rfl (Nat.le_of_ble_eq_true rfl) dX1_majority_2 (fun H locs h => ?_)
    refine n_if_eq (tgt := 10) hx hb dX1_majority_5 (by decide) (by omega) (fun c5 => absurd c5 (by omega)) (fun c5 => ?_)
    refine lv_iconst (v := (-1)) hx hb dX1_majority_8 (by decide) ?_
    exact hret _ _ _ _ _ (c, t, v, S, K) _ h (pubY_i (by simp only [sp_majority, ha])) hrt rfl dX1_majority_9
  | some r =>
    obtain ⟨hr, rfl⟩ := ix_some (by decide) ha
    refine lv_aload_n hx hb dX1_majority_0 rfl (lv_at hl 0 rfl) ?_
    refine lv_iload_n hx hb dX1_majority_1 rfl (lv_at hl 1 rfl) ?_
    refine y_callr (x := nI 0) G h (mY_noRule0 l D ad cI c t v S K r (by omega)) kY_noRule rfl ⟨Nat.le_of_ble_eq_true rfl, Nat.le_of_ble_eq_true rfl, Nat.le_refl _, Nat.le_refl _⟩ hl.1 rfl (Nat.le_of_ble_eq_true rfl) dX1_majority_2 (fun H locs h => ?_)
    refine n_if_eq (tgt := 10) hx hb dX1_majority_5 (by decide) (by omega) (fun c5 => ?_) (fun c5 => absurd c5 (by omega))
    refine lv_aload_n hx hb dX1_majority_10 rfl (lv_at hl 0 rfl) ?_
    refine lv_iload_n hx hb dX1_majority_11 rfl (lv_at hl 1 rfl) ?_
    refine lv_aload_n hx hb dX1_majority_12 rfl (lv_at hl 0 rfl) ?_
    refine y_getT G h dX1_majority_13 ?_
    refine y_callv G h (mY_give l D ad cI c t v S K r t (by omega) hc hv3 (by omega)) kY_give rfl ⟨Nat.le_of_ble_eq_true rfl, Nat.le_of_ble_eq_true rfl, Nat.le_refl _, Nat.le_refl _⟩ hl.1 rfl (Nat.le_of_ble_eq_true rfl) dX1_majority_16 (fun c1 t1 v1 Sa1 K1 H locs hp h => ?_)
    obtain ⟨S2, e1, hSa1⟩ := hp
    cases e1
    refine lv_iconst (v := (nI 0)) hx hb dX1_majority_19 (by decide) ?_
    refine lv_istore_n (lv' := [(2, .int (nI 0)), (0, .ref (ad 0)), (1, .int (nI r))]) hx hb dX1_majority_20 rfl hl (by decide) rfl (fun ls hl => ?_)
    refine lv_iconst (v := (nI 0)) hx hb dX1_majority_21 (by decide) ?_
    refine lv_istore_n (lv' := [(3, .int (nI 0)), (2, .int (nI 0)), (0, .ref (ad 0)), (1, .int (nI r))]) hx hb dX1_majority_22 rfl hl (by decide) rfl (fun ls hl => ?_)
    have L23 : ∀ (n23 : Nat) (i : Nat), c - i < n23 → (i ≤ c) → ∀ (H : Heap) (locs : List Loc), HY D A ad cI s.heap c t v Sa1 K H locs → ∀ (ls : Array Slot), lv_has ls 7 [(0, .ref (ad 0)), (1, .int (nI r)), (2, .int (nI (sumTo (sh r v c t) i))), (3, .int (nI i))] → W p l e (rmm 4 97) s m args below meth cd H locs 0 0 Q (F0 m 23 ls []) := by
      intro n23
      induction n23 with
      | zero =>
        intro i hm
        exact absurd hm (Nat.not_lt_zero _)
      | succ n23 ih23 =>
        intro i hm23 hi H locs h ls hl
        refine lv_iload_n hx hb dX1_majority_23 rfl (lv_at hl 3 rfl) ?_
        refine lv_aload_n hx hb dX1_majority_24 rfl (lv_at hl 0 rfl) ?_
        refine y_getC G h dX1_majority_25 ?_
        refine n_icmp_ge (tgt := 46) hx hb dX1_majority_28 (by decide) (by omega) (by omega) (fun c28 => ?_) (fun c28 => ?_)
        · skip
          refine lv_iconst (v := (nI 0)) hx hb dX1_majority_46 (by decide) ?_
          refine lv_istore_n (lv' := [(3, .int (nI 0)), (0, .ref (ad 0)), (1, .int (nI r)), (2, .int (nI (sumTo (sh r v c t) i)))]) hx hb dX1_majority_47 rfl hl (by decide) rfl (fun ls hl => ?_)
          refine lv_iconst (v := (nI 0)) hx hb dX1_majority_48 (by decide) ?_
          refine lv_istore (lv' := [(4, .int (nI 0)), (3, .int (nI 0)), (0, .ref (ad 0)), (1, .int (nI r)), (2, .int (nI (sumTo (sh r v c t) i)))]) hx hb dX1_majority_49 hl (by decide) rfl (fun ls hl => ?_)
          have hic : i = c := by omega
          have htt := sh_tot (r := r) (v := v) (c := c) (n := t)
          have hl : lv_has ls 7 [(4, .int (nI 0)), (3, .int (nI 0)), (0, .ref (ad 0)), (1, .int (nI r)), (2, .int (nI (sumTo (sh r v c t) c)))] := by rw [← hic]; rw [← hic] at hl; exact hl
          have L51 : ∀ (n51 : Nat) (sx : Nat → Nat) (wf : Nat → Nat) (hv1 : Nat) (mn : Nat) (F : Nat → Int32), c - mn < n51 → (∀ j, j < c → F j = nI (sx j)) → (∀ j, j < c → (wf j = 0 ∧ sx j = 0) ∨ wf j = sx j + 1) → (mn ≤ c) → (cntP wf c + mn = c) → (hv1 + sumTo sx c = sumTo (sh r v c t) c) → (sumTo (sh r v c t) c = 0 → mn = 0) → (mjX c (sumTo (sh r v c t) c) (c + 1 - mn) wf hv1 mn = mjX c (sumTo (sh r v c t) c) (c + 1) (fun j => sh r v c t j + 1) 0 0) → ∀ (H : Heap) (locs : List Loc), HY D A ad cI s.heap c t v F K H locs → ∀ (ls : Array Slot), lv_has ls 7 [(0, .ref (ad 0)), (1, .int (nI r)), (2, .int (nI (sumTo (sh r v c t) c))), (3, .int (nI hv1)), (4, .int (nI mn))] → W p l e (rmm 4 97) s m args below meth cd H locs 0 0 Q (F0 m 51 ls []) := by
            intro n51
            induction n51 with
            | zero =>
              intro sx wf hv1 mn F hm
              exact absurd hm (Nat.not_lt_zero _)
            | succ n51 ih51 =>
              intro sx wf hv1 mn F hm51 hF hrel hmn hcn hsum hz hres H locs h ls hl
              refine lv_iconst (v := (nI 2)) hx hb dX1_majority_51 (by decide) ?_
              refine lv_iload_n hx hb dX1_majority_52 rfl (lv_at hl 3 rfl) ?_
              refine n_imul hx hb dX1_majority_53 ?_
              refine lv_iload_n hx hb dX1_majority_54 rfl (lv_at hl 2 rfl) ?_
              refine n_icmp_gt (tgt := 128) hx hb dX1_majority_55 (by decide) (by omega) (by omega) (fun c55 => ?_) (fun c55 => ?_)
              · skip
                refine lv_iload hx hb dX1_majority_128 (lv_at hl 4 rfl) ?_
                exact hret _ _ _ _ _ (c, t, v, F, K) _ h (pubY_i (by simp only [sp_majority, ha]; rw [if_neg (by omega), ← hres, mjX_stop (by omega) (by omega)])) hrt rfl dX1_majority_130
              · skip
                refine lv_iload_n hx hb dX1_majority_58 rfl (lv_at hl 2 rfl) ?_
                refine n_if_le (tgt := 128) hx hb dX1_majority_59 (by decide) (by omega) (fun c59 => ?_) (fun c59 => ?_)
                · skip
                  refine lv_iload hx hb dX1_majority_128 (lv_at hl 4 rfl) ?_
                  exact hret _ _ _ _ _ (c, t, v, F, K) _ h (pubY_i (by simp only [sp_majority, ha]; rw [if_pos c59, hz c59])) hrt rfl dX1_majority_130
                · skip
                  have hsp0 : 0 < sumTo sx c := by omega
                  have hmc : mn < c := by have := mj_cnt hrel hsp0; omega
                  refine lv_iconst (v := (nI 0)) hx hb dX1_majority_62 (by decide) ?_
                  refine lv_istore (lv' := [(5, .int (nI 0)), (0, .ref (ad 0)), (1, .int (nI r)), (2, .int (nI (sumTo (sh r v c t) c))), (3, .int (nI hv1)), (4, .int (nI mn))]) hx hb dX1_majority_63 hl (by decide) rfl (fun ls hl => ?_)
                  refine lv_iconst (v := (nI 1)) hx hb dX1_majority_65 (by decide) ?_
                  refine lv_istore (lv' := [(6, .int (nI 1)), (5, .int (nI 0)), (0, .ref (ad 0)), (1, .int (nI r)), (2, .int (nI (sumTo (sh r v c t) c))), (3, .int (nI hv1)), (4, .int (nI mn))]) hx hb dX1_majority_66 hl (by decide) rfl (fun ls hl => ?_)
                  have L68 : ∀ (n68 : Nat) (i2 : Nat) (bb : Nat), c - i2 < n68 → (1 ≤ i2) → (i2 ≤ c) → (bb = bxM sx i2) → ∀ (H : Heap) (locs : List Loc), HY D A ad cI s.heap c t v F K H locs → ∀ (ls : Array Slot), lv_has ls 7 [(0, .ref (ad 0)), (1, .int (nI r)), (2, .int (nI (sumTo (sh r v c t) c))), (3, .int (nI hv1)), (4, .int (nI mn)), (5, .int (nI bb)), (6, .int (nI i2))] → W p l e (rmm 4 97) s m args below meth cd H locs 0 0 Q (F0 m 68 ls []) := by
                    intro n68
                    induction n68 with
                    | zero =>
                      intro i2 bb hm
                      exact absurd hm (Nat.not_lt_zero _)
                    | succ n68 ih68 =>
                      intro i2 bb hm68 hi1 hi2 hbb H locs h ls hl
                      have hbc : bb < c := by rw [hbb]; exact bxM_lt hi2 (by omega)
                      have hb3 := sumTo_at (v := sx) hbc
                      refine lv_iload hx hb dX1_majority_68 (lv_at hl 6 rfl) ?_
                      refine lv_aload_n hx hb dX1_majority_70 rfl (lv_at hl 0 rfl) ?_
                      refine y_getC G h dX1_majority_71 ?_
                      refine n_icmp_ge (tgt := 104) hx hb dX1_majority_74 (by decide) (by omega) (by omega) (fun c74 => ?_) (fun c74 => ?_)
                      · skip
                        have hbe : bb = bxM sx c := by rw [hbb, show i2 = c by omega]
                        have hbw : bb = bxM wf c := by rw [hbe]; exact (bx_rel hrel hsp0).symm
                        have hsb : 0 < sx bb := by rw [hbe]; exact bxM_pos (cntP_pos hsp0)
                        have hwe : wf bb - 1 = sx bb := by have := hrel bb hbc; omega
                        have hwb : 0 < wf bb := by omega
                        refine lv_iload_n hx hb dX1_majority_104 rfl (lv_at hl 3 rfl) ?_
                        refine lv_aload_n hx hb dX1_majority_105 rfl (lv_at hl 0 rfl) ?_
                        refine y_getS G h dX1_majority_106 ?_
                        refine lv_iload hx hb dX1_majority_109 (lv_at hl 5 rfl) ?_
                        refine y_ldS (x := (nI (sx bb))) G h (by omega) (hF _ hbc) dX1_majority_111 ?_
                        refine n_iadd hx hb dX1_majority_112 ?_
                        refine lv_istore_n (lv' := [(3, .int (nI (hv1 + (sx bb)))), (0, .ref (ad 0)), (1, .int (nI r)), (2, .int (nI (sumTo (sh r v c t) c))), (4, .int (nI mn)), (5, .int (nI bb)), (6, .int (nI i2))]) hx hb dX1_majority_113 rfl hl (by decide) rfl (fun ls hl => ?_)
                        refine lv_aload_n hx hb dX1_majority_114 rfl (lv_at hl 1 rfl) ?_
                        refine y_getS G h dX1_majority_115 ?_
                        refine lv_iload hx hb dX1_majority_118 (lv_at hl 5 rfl) ?_
                        refine lv_iconst (v := (nI 0)) hx hb dX1_majority_120 (by decide) ?_
                        refine y_stS (S' := upd F bb (nI 0)) G h (by omega) rfl dX1_majority_121 (fun H locs h => ?_)
                        refine lv_iinc (v := nI (mn + 1)) (lv' := [(4, .int (nI (mn + 1))), (3, .int (nI (hv1 + (sx bb)))), (0, .ref (ad 0)), (1, .int (nI r)), (2, .int (nI (sumTo (sh r v c t) c))), (5, .int (nI bb)), (6, .int (nI i2))]) hx hb dX1_majority_122 hl (k := 4) rfl (inc1 _) (by decide) rfl (fun ls hl => ?_)
                        refine lv_goto (tgt := 51) hx hb dX1_majority_125 (by decide) ?_
                        exact ih51 (va_up sx bb 0) (va_up wf bb 0) (hv1 + sx bb) (mn + 1) (upd F bb (nI 0)) (by omega) (rel_up hF) (mj_rel hrel) (by omega) (by have := cntP_up (v := wf) hbc hwb; omega) (by have := sumTo_up (v := sx) (x := 0) hbc; omega) (fun z => by omega) (by rw [← hres, mjX_go hmc c55, ← hbw, hwe]) _ _ h _ (lv_sub hl [2, 3, 4, 1, 0] rfl)
                      · skip
                        refine lv_aload_n hx hb dX1_majority_77 rfl (lv_at hl 0 rfl) ?_
                        refine y_getS G h dX1_majority_78 ?_
                        refine lv_iload hx hb dX1_majority_81 (lv_at hl 6 rfl) ?_
                        refine y_ldS (x := (nI (sx i2))) G h (by omega) (hF _ (by omega)) dX1_majority_83 ?_
                        refine lv_aload_n hx hb dX1_majority_84 rfl (lv_at hl 0 rfl) ?_
                        refine y_getS G h dX1_majority_85 ?_
                        refine lv_iload hx hb dX1_majority_88 (lv_at hl 5 rfl) ?_
                        refine y_ldS (x := (nI (sx bb))) G h (by omega) (hF _ hbc) dX1_majority_90 ?_
                        refine n_icmp_le (tgt := 98) hx hb dX1_majority_91 (by decide) (by have := sumTo_at (v := sx) (show i2 < c by omega); omega) (by omega) (fun c91 => ?_) (fun c91 => ?_)
                        · skip
                          refine lv_iinc (v := nI (i2 + 1)) (lv' := [(6, .int (nI (i2 + 1))), (0, .ref (ad 0)), (1, .int (nI r)), (2, .int (nI (sumTo (sh r v c t) c))), (3, .int (nI hv1)), (4, .int (nI mn)), (5, .int (nI bb))]) hx hb dX1_majority_98 hl (k := 6) rfl (inc1 _) (by decide) rfl (fun ls hl => ?_)
                          refine lv_goto (tgt := 68) hx hb dX1_majority_101 (by decide) ?_
                          exact ih68 (i2 + 1) bb (by omega) (by omega) (by omega) (by rw [bxM_s, ← hbb, if_neg (by omega)]) _ _ h _ (lv_sub hl [1, 2, 3, 4, 5, 6, 0] rfl)
                        · skip
                          refine lv_iload hx hb dX1_majority_94 (lv_at hl 6 rfl) ?_
                          refine lv_istore (lv' := [(5, .int (nI i2)), (0, .ref (ad 0)), (1, .int (nI r)), (2, .int (nI (sumTo (sh r v c t) c))), (3, .int (nI hv1)), (4, .int (nI mn)), (6, .int (nI i2))]) hx hb dX1_majority_96 hl (by decide) rfl (fun ls hl => ?_)
                          refine lv_iinc (v := nI (i2 + 1)) (lv' := [(6, .int (nI (i2 + 1))), (5, .int (nI i2)), (0, .ref (ad 0)), (1, .int (nI r)), (2, .int (nI (sumTo (sh r v c t) c))), (3, .int (nI hv1)), (4, .int (nI mn))]) hx hb dX1_majority_98 hl (k := 6) rfl (inc1 _) (by decide) rfl (fun ls hl => ?_)
                          refine lv_goto (tgt := 68) hx hb dX1_majority_101 (by decide) ?_
                          exact ih68 (i2 + 1) i2 (by omega) (by omega) (by omega) (by rw [bxM_s, ← hbb, if_pos c91]) _ _ h _ (lv_sub hl [2, 3, 4, 5, 6, 1, 0] rfl)
                  exact L68 _ 1 0 (Nat.lt_succ_self _) (Nat.le_refl _) (by omega) (by simp [bxM]) _ _ h _ (lv_sub hl [2, 3, 4, 5, 6, 1, 0] rfl)
          exact L51 _ (sh r v c t) (fun j => sh r v c t j + 1) 0 0 Sa1 (Nat.lt_succ_self _) hSa1 (fun j _ => Or.inr rfl) (Nat.zero_le _) (by rw [cntP_all (fun j _ => Nat.succ_pos _)]; rfl) (Nat.zero_add _) (fun _ => rfl) rfl _ _ h _ (lv_sub hl [2, 3, 4, 1, 0] rfl)
        · skip
          refine lv_iload_n hx hb dX1_majority_31 rfl (lv_at hl 2 rfl) ?_
          refine lv_aload_n hx hb dX1_majority_32 rfl (lv_at hl 0 rfl) ?_
          refine y_getS G h dX1_majority_33 ?_
          refine lv_iload_n hx hb dX1_majority_36 rfl (lv_at hl 3 rfl) ?_
          refine y_ldS (x := (nI (sh r v c t i))) G h (by omega) (hSa1 _ (by omega)) dX1_majority_37 ?_
          refine n_iadd hx hb dX1_majority_38 ?_
          refine lv_istore_n (lv' := [(2, .int (nI ((sumTo (sh r v c t) i) + (sh r v c t i)))), (0, .ref (ad 0)), (1, .int (nI r)), (3, .int (nI i))]) hx hb dX1_majority_39 rfl hl (by decide) rfl (fun ls hl => ?_)
          refine lv_iinc (v := nI (i + 1)) (lv' := [(3, .int (nI (i + 1))), (2, .int (nI ((sumTo (sh r v c t) i) + (sh r v c t i)))), (0, .ref (ad 0)), (1, .int (nI r))]) hx hb dX1_majority_40 hl (k := 3) rfl (inc1 _) (by decide) rfl (fun ls hl => ?_)
          refine lv_goto (tgt := 23) hx hb dX1_majority_43 (by decide) ?_
          exact ih23 (i + 1) (by omega) (by omega) _ _ h _ (lv_sub hl [2, 3, 1, 0] rfl)
    exact L23 _ 0 (Nat.lt_succ_self _) (by omega) _ _ h _ (lv_sub hl [2, 3, 1, 0] rfl)
end
section
set_option maxRecDepth 100000
def ad6 (a b c d e f : Nat) : Nat → Nat := fun k => match k with
  | 0 => a
  | 1 => b
  | 2 => c
  | 3 => d
  | 4 => e
  | _ => f
set_option maxHeartbeats 4000000 in
theorem mX_init (l : Launch) (D : va_G) (h0 sz : Nat) : Met l yX0_init (ws_ yX0_init cX0_init 1 none) ({ frames := 1, cells := 5, slots := 30, locals := 12 }) (va_Pc [.ref h0] (PW D [] [(h0, .inr (0, [.int 0, .int 0, .null, .null, .null, .null, .null]))] sz)) (va_Qv (fun u : (Nat → Nat) × ClassId × ClassId => u.1 0 = h0) (fun u t => va_P D vwCl (wX u.1 u.2.1 u.2.2 0 0 (fun _ => 0) (fun _ => nI 0) (fun _ => nI 0) (fun _ => nI 0) (fun _ => nI 0)) t.heap ∧ va_K D vwCl (tyX u.2.1 u.2.2) t ∧ va_D (va_A [(h0, .inr (0, [.int 0, .int 0, .null, .null, .null, .null, .null]))] sz) (wX u.1 u.2.1 u.2.2 0 0 (fun _ => 0) (fun _ => nI 0) (fun _ => nI 0) (fun _ => nI 0) (fun _ => nI 0))) (va_A [(h0, .inr (0, [.int 0, .int 0, .null, .null, .null, .null, .null]))] sz)) 5 30 (va_A [(h0, .inr (0, [.int 0, .int 0, .null, .null, .null, .null, .null]))] sz) := by
  refine Met.ofW (cc := cX0_init) (maxL := 1) (ret := none) (by decide) rfl ?_
  intro p e s m args below meth c s₁ B hml hv
  obtain ⟨rfl, hsz, hP, hK, hD0⟩ := hv
  have hx := B.exec
  have hb := B.bytes
  have hr := B.returns
  have hts := atoms_spec (ws := ws_ yX0_init cX0_init 1 none) B.pre
  have hts : ∀ w ∈ lw_all, w.before _ s = true := fun w h => hts w (List.mem_cons_of_mem _ h)
  have hown : s.vm.findClass RX0 = some m.cls := findClass_of_methodNamed B.named
  have hlocks := B.notSynchronized
  have hin : meth.name = "<init>" := (name_of_methodNamed B.named B.method).1
  subst hsz
  have hD := hD0.self (sz := s.heap.size)
  generalize hAe : va_A [(h0, .inr (0, [.int 0, .int 0, .null, .null, .null, .null, .null]))] s.heap.size = A at hD ⊢
  have hA : ∀ q : Nat, s.heap.size ≤ q → A q := fun q h => by rw [← hAe]; exact Or.inr h
  have hS : va_S A s.heap s.heap [] := va_S.rf
  have hP : va_P D vwCl [(h0, .inr (0, [.int 0, .int 0, .null, .null, .null, .null, .null]))] s.heap := hP
  have hl := lv_entry ([.ref h0]) (n := 1) (Nat.le_of_ble_eq_true rfl)
  rw [lg_entry_eq]
  generalize (lg_sl ([.ref h0]) ++ List.replicate (1 - (lg_sl ([.ref h0])).length) Slot.unset).toArray = ls at hl ⊢
  have hl : lv_has ls 1 [(0, .ref h0)] := hl
  refine lv_aload_n hx hb dX0_init_0 rfl (lv_at hl 0 rfl) ?_
  refine W.objInit hx hb hown (hts _ q35) (hts _ q36) (hts _ q37) rfl (by rw [hml]; exact hl.1) rfl dX0_init_1 (Nat.le_of_ble_eq_true rfl) (Nat.le_of_ble_eq_true rfl) ?_
  refine W.eq (g2 := F0 m 4 ls []) rfl ?_
  refine lv_aload_n hx hb dX0_init_4 rfl (lv_at hl 0 rfl) ?_
  refine lv_bipush (v := nI 6) hx hb dX0_init_5 (by decide) ?_
  refine va_newa (atype := .int) (ty := .int) (a0 := (6, .inl (fun _ => nI 0))) (N' := 6) hx hb (hts _ q60) rfl hK hP hD hS hA (fun _ => rfl) (by decide) (by decide) (by decide) (Nat.le_of_ble_eq_true rfl) (Nat.le_of_ble_eq_true rfl) dX0_init_7 (fun q0_ c0_ H hK hP hD hS => ?_)
  have hP : va_P D vwCl [(h0, .inr (0, [.int 0, .int 0, .null, .null, .null, .null, .null])), (q0_, .inl (c0_, 6, .inl (fun _ => nI 0)))] H := hP
  have hD : va_D A [(h0, .inr (0, [.int 0, .int 0, .null, .null, .null, .null, .null])), (q0_, .inl (c0_, 6, .inl (fun _ => nI 0)))] := hD
  have hK : va_K D vwCl [(c0_, .int)] s := hK
  refine va_putF (D := D) (ci := 0) (v := .ref q0_) (ty := .array .int) (C := RX0) (T := TX0) (N := 7) hx hb hts in_X0 tyX0 tyX0_ok nmX0 hown hK hP hD hS 0 rfl rfl 2 (by decide) (hts _ q40) (fun _ h9 => h9) rfl hin rfl (by decide +kernel) rfl rfl (Nat.le_of_ble_eq_true rfl) dX0_init_9 (fun H locs hP hD hS => ?_)
  have hP : va_P D vwCl [(h0, .inr (0, [.int 0, .int 0, .ref q0_, .null, .null, .null, .null])), (q0_, .inl (c0_, 6, .inl (fun _ => nI 0)))] H := hP
  have hD : va_D A [(h0, .inr (0, [.int 0, .int 0, .ref q0_, .null, .null, .null, .null])), (q0_, .inl (c0_, 6, .inl (fun _ => nI 0)))] := hD
  refine lv_aload_n hx hb dX0_init_12 rfl (lv_at hl 0 rfl) ?_
  refine lv_bipush (v := nI 6) hx hb dX0_init_13 (by decide) ?_
  refine va_newa (atype := .int) (ty := .int) (a0 := (6, .inl (fun _ => nI 0))) (N' := 6) hx hb (hts _ q60) rfl hK hP hD hS hA (fun _ => rfl) (by decide) (by decide) (by decide) (Nat.le_of_ble_eq_true rfl) (Nat.le_of_ble_eq_true rfl) dX0_init_15 (fun q1_ c1_ H hK hP hD hS => ?_)
  have hP : va_P D vwCl [(h0, .inr (0, [.int 0, .int 0, .ref q0_, .null, .null, .null, .null])), (q0_, .inl (c0_, 6, .inl (fun _ => nI 0))), (q1_, .inl (c1_, 6, .inl (fun _ => nI 0)))] H := hP
  have hD : va_D A [(h0, .inr (0, [.int 0, .int 0, .ref q0_, .null, .null, .null, .null])), (q0_, .inl (c0_, 6, .inl (fun _ => nI 0))), (q1_, .inl (c1_, 6, .inl (fun _ => nI 0)))] := hD
  have hK : va_K D vwCl [(c0_, .int), (c1_, .int)] s := hK
  refine va_putF (D := D) (ci := 0) (v := .ref q1_) (ty := .array .int) (C := RX0) (T := TX0) (N := 7) hx hb hts in_X0 tyX0 tyX0_ok nmX0 hown hK hP hD hS 0 rfl rfl 3 (by decide) (hts _ q41) (fun _ h9 => h9) rfl hin rfl (by decide +kernel) rfl rfl (Nat.le_of_ble_eq_true rfl) dX0_init_17 (fun H locs hP hD hS => ?_)
  have hP : va_P D vwCl [(h0, .inr (0, [.int 0, .int 0, .ref q0_, .ref q1_, .null, .null, .null])), (q0_, .inl (c0_, 6, .inl (fun _ => nI 0))), (q1_, .inl (c1_, 6, .inl (fun _ => nI 0)))] H := hP
  have hD : va_D A [(h0, .inr (0, [.int 0, .int 0, .ref q0_, .ref q1_, .null, .null, .null])), (q0_, .inl (c0_, 6, .inl (fun _ => nI 0))), (q1_, .inl (c1_, 6, .inl (fun _ => nI 0)))] := hD
  refine lv_aload_n hx hb dX0_init_20 rfl (lv_at hl 0 rfl) ?_
  refine lv_bipush (v := nI 6) hx hb dX0_init_21 (by decide) ?_
  refine va_newa (atype := .int) (ty := .int) (a0 := (6, .inl (fun _ => nI 0))) (N' := 6) hx hb (hts _ q60) rfl hK hP hD hS hA (fun _ => rfl) (by decide) (by decide) (by decide) (Nat.le_of_ble_eq_true rfl) (Nat.le_of_ble_eq_true rfl) dX0_init_23 (fun q2_ c2_ H hK hP hD hS => ?_)
  have hP : va_P D vwCl [(h0, .inr (0, [.int 0, .int 0, .ref q0_, .ref q1_, .null, .null, .null])), (q0_, .inl (c0_, 6, .inl (fun _ => nI 0))), (q1_, .inl (c1_, 6, .inl (fun _ => nI 0))), (q2_, .inl (c2_, 6, .inl (fun _ => nI 0)))] H := hP
  have hD : va_D A [(h0, .inr (0, [.int 0, .int 0, .ref q0_, .ref q1_, .null, .null, .null])), (q0_, .inl (c0_, 6, .inl (fun _ => nI 0))), (q1_, .inl (c1_, 6, .inl (fun _ => nI 0))), (q2_, .inl (c2_, 6, .inl (fun _ => nI 0)))] := hD
  have hK : va_K D vwCl [(c0_, .int), (c1_, .int), (c2_, .int)] s := hK
  refine va_putF (D := D) (ci := 0) (v := .ref q2_) (ty := .array .int) (C := RX0) (T := TX0) (N := 7) hx hb hts in_X0 tyX0 tyX0_ok nmX0 hown hK hP hD hS 0 rfl rfl 4 (by decide) (hts _ q42) (fun _ h9 => h9) rfl hin rfl (by decide +kernel) rfl rfl (Nat.le_of_ble_eq_true rfl) dX0_init_25 (fun H locs hP hD hS => ?_)
  have hP : va_P D vwCl [(h0, .inr (0, [.int 0, .int 0, .ref q0_, .ref q1_, .ref q2_, .null, .null])), (q0_, .inl (c0_, 6, .inl (fun _ => nI 0))), (q1_, .inl (c1_, 6, .inl (fun _ => nI 0))), (q2_, .inl (c2_, 6, .inl (fun _ => nI 0)))] H := hP
  have hD : va_D A [(h0, .inr (0, [.int 0, .int 0, .ref q0_, .ref q1_, .ref q2_, .null, .null])), (q0_, .inl (c0_, 6, .inl (fun _ => nI 0))), (q1_, .inl (c1_, 6, .inl (fun _ => nI 0))), (q2_, .inl (c2_, 6, .inl (fun _ => nI 0)))] := hD
  refine lv_aload_n hx hb dX0_init_28 rfl (lv_at hl 0 rfl) ?_
  refine lv_bipush (v := nI 6) hx hb dX0_init_29 (by decide) ?_
  refine va_newa (atype := .int) (ty := .int) (a0 := (6, .inl (fun _ => nI 0))) (N' := 6) hx hb (hts _ q60) rfl hK hP hD hS hA (fun _ => rfl) (by decide) (by decide) (by decide) (Nat.le_of_ble_eq_true rfl) (Nat.le_of_ble_eq_true rfl) dX0_init_31 (fun q3_ c3_ H hK hP hD hS => ?_)
  have hP : va_P D vwCl [(h0, .inr (0, [.int 0, .int 0, .ref q0_, .ref q1_, .ref q2_, .null, .null])), (q0_, .inl (c0_, 6, .inl (fun _ => nI 0))), (q1_, .inl (c1_, 6, .inl (fun _ => nI 0))), (q2_, .inl (c2_, 6, .inl (fun _ => nI 0))), (q3_, .inl (c3_, 6, .inl (fun _ => nI 0)))] H := hP
  have hD : va_D A [(h0, .inr (0, [.int 0, .int 0, .ref q0_, .ref q1_, .ref q2_, .null, .null])), (q0_, .inl (c0_, 6, .inl (fun _ => nI 0))), (q1_, .inl (c1_, 6, .inl (fun _ => nI 0))), (q2_, .inl (c2_, 6, .inl (fun _ => nI 0))), (q3_, .inl (c3_, 6, .inl (fun _ => nI 0)))] := hD
  have hK : va_K D vwCl [(c0_, .int), (c1_, .int), (c2_, .int), (c3_, .int)] s := hK
  refine va_putF (D := D) (ci := 0) (v := .ref q3_) (ty := .array .int) (C := RX0) (T := TX0) (N := 7) hx hb hts in_X0 tyX0 tyX0_ok nmX0 hown hK hP hD hS 0 rfl rfl 5 (by decide) (hts _ q43) (fun _ h9 => h9) rfl hin rfl (by decide +kernel) rfl rfl (Nat.le_of_ble_eq_true rfl) dX0_init_33 (fun H locs hP hD hS => ?_)
  have hP : va_P D vwCl [(h0, .inr (0, [.int 0, .int 0, .ref q0_, .ref q1_, .ref q2_, .ref q3_, .null])), (q0_, .inl (c0_, 6, .inl (fun _ => nI 0))), (q1_, .inl (c1_, 6, .inl (fun _ => nI 0))), (q2_, .inl (c2_, 6, .inl (fun _ => nI 0))), (q3_, .inl (c3_, 6, .inl (fun _ => nI 0)))] H := hP
  have hD : va_D A [(h0, .inr (0, [.int 0, .int 0, .ref q0_, .ref q1_, .ref q2_, .ref q3_, .null])), (q0_, .inl (c0_, 6, .inl (fun _ => nI 0))), (q1_, .inl (c1_, 6, .inl (fun _ => nI 0))), (q2_, .inl (c2_, 6, .inl (fun _ => nI 0))), (q3_, .inl (c3_, 6, .inl (fun _ => nI 0)))] := hD
  refine lv_aload_n hx hb dX0_init_36 rfl (lv_at hl 0 rfl) ?_
  refine lv_bipush (v := nI 6) hx hb dX0_init_37 (by decide) ?_
  refine va_newa (atype := .byte) (ty := .byte) (a0 := (6, .inl (fun _ => nI 0))) (N' := 6) hx hb (hts _ q61) rfl hK hP hD hS hA (fun _ => rfl) (by decide) (by decide) (by decide) (Nat.le_of_ble_eq_true rfl) (Nat.le_of_ble_eq_true rfl) dX0_init_39 (fun q4_ c4_ H hK hP hD hS => ?_)
  have hP : va_P D vwCl [(h0, .inr (0, [.int 0, .int 0, .ref q0_, .ref q1_, .ref q2_, .ref q3_, .null])), (q0_, .inl (c0_, 6, .inl (fun _ => nI 0))), (q1_, .inl (c1_, 6, .inl (fun _ => nI 0))), (q2_, .inl (c2_, 6, .inl (fun _ => nI 0))), (q3_, .inl (c3_, 6, .inl (fun _ => nI 0))), (q4_, .inl (c4_, 6, .inl (fun _ => nI 0)))] H := hP
  have hD : va_D A [(h0, .inr (0, [.int 0, .int 0, .ref q0_, .ref q1_, .ref q2_, .ref q3_, .null])), (q0_, .inl (c0_, 6, .inl (fun _ => nI 0))), (q1_, .inl (c1_, 6, .inl (fun _ => nI 0))), (q2_, .inl (c2_, 6, .inl (fun _ => nI 0))), (q3_, .inl (c3_, 6, .inl (fun _ => nI 0))), (q4_, .inl (c4_, 6, .inl (fun _ => nI 0)))] := hD
  have hK : va_K D vwCl [(c0_, .int), (c1_, .int), (c2_, .int), (c3_, .int), (c4_, .byte)] s := hK
  refine va_putF (D := D) (ci := 0) (v := .ref q4_) (ty := .array .byte) (C := RX0) (T := TX0) (N := 7) hx hb hts in_X0 tyX0 tyX0_ok nmX0 hown hK hP hD hS 0 rfl rfl 6 (by decide) (hts _ q44) (fun _ h9 => h9) rfl hin rfl (by decide +kernel) rfl rfl (Nat.le_of_ble_eq_true rfl) dX0_init_41 (fun H locs hP hD hS => ?_)
  have hP : va_P D vwCl [(h0, .inr (0, [.int 0, .int 0, .ref q0_, .ref q1_, .ref q2_, .ref q3_, .ref q4_])), (q0_, .inl (c0_, 6, .inl (fun _ => nI 0))), (q1_, .inl (c1_, 6, .inl (fun _ => nI 0))), (q2_, .inl (c2_, 6, .inl (fun _ => nI 0))), (q3_, .inl (c3_, 6, .inl (fun _ => nI 0))), (q4_, .inl (c4_, 6, .inl (fun _ => nI 0)))] H := hP
  have hD : va_D A [(h0, .inr (0, [.int 0, .int 0, .ref q0_, .ref q1_, .ref q2_, .ref q3_, .ref q4_])), (q0_, .inl (c0_, 6, .inl (fun _ => nI 0))), (q1_, .inl (c1_, 6, .inl (fun _ => nI 0))), (q2_, .inl (c2_, 6, .inl (fun _ => nI 0))), (q3_, .inl (c3_, 6, .inl (fun _ => nI 0))), (q4_, .inl (c4_, 6, .inl (fun _ => nI 0)))] := hD
  refine lv_aload_n hx hb dX0_init_44 rfl (lv_at hl 0 rfl) ?_
  refine lv_iconst (v := nI 0) hx hb dX0_init_45 (by decide) ?_
  refine va_put (D := D) (ci := 0) (v := .int (nI 0)) (ty := .int) (C := RX0) (T := TX0) (N := 7) hx hb hts in_X0 tyX0 tyX0_ok nmX0 hown hK hP hD hS 0 rfl rfl 0 (by decide) (hts _ q38) (fun _ h9 => h9) rfl (by decide +kernel) rfl rfl (Nat.le_of_ble_eq_true rfl) dX0_init_46 (fun H locs hP hD hS => ?_)
  have hP : va_P D vwCl [(h0, .inr (0, [.int (nI 0), .int 0, .ref q0_, .ref q1_, .ref q2_, .ref q3_, .ref q4_])), (q0_, .inl (c0_, 6, .inl (fun _ => nI 0))), (q1_, .inl (c1_, 6, .inl (fun _ => nI 0))), (q2_, .inl (c2_, 6, .inl (fun _ => nI 0))), (q3_, .inl (c3_, 6, .inl (fun _ => nI 0))), (q4_, .inl (c4_, 6, .inl (fun _ => nI 0)))] H := hP
  have hD : va_D A [(h0, .inr (0, [.int (nI 0), .int 0, .ref q0_, .ref q1_, .ref q2_, .ref q3_, .ref q4_])), (q0_, .inl (c0_, 6, .inl (fun _ => nI 0))), (q1_, .inl (c1_, 6, .inl (fun _ => nI 0))), (q2_, .inl (c2_, 6, .inl (fun _ => nI 0))), (q3_, .inl (c3_, 6, .inl (fun _ => nI 0))), (q4_, .inl (c4_, 6, .inl (fun _ => nI 0)))] := hD
  obtain rfl : c1_ = c0_ := Option.some.inj ((hK.2 1 _ rfl).2.symm.trans (hK.2 0 _ rfl).2)
  obtain rfl : c2_ = c1_ := Option.some.inj ((hK.2 2 _ rfl).2.symm.trans (hK.2 1 _ rfl).2)
  obtain rfl : c3_ = c2_ := Option.some.inj ((hK.2 3 _ rfl).2.symm.trans (hK.2 2 _ rfl).2)
  have hK9 := hK.sub (tys' := [(c3_, .int), (c4_, .byte)]) [0, 4] rfl
  have hP9 : va_P D vwCl (wX (ad6 h0 q0_ q1_ q2_ q3_ q4_) c3_ c4_ 0 0 (fun _ => 0) (fun _ => nI 0) (fun _ => nI 0) (fun _ => nI 0) (fun _ => nI 0)) H := hP
  have hD9 : va_D A (wX (ad6 h0 q0_ q1_ q2_ q3_ q4_) c3_ c4_ 0 0 (fun _ => 0) (fun _ => nI 0) (fun _ => nI 0) (fun _ => nI 0) (fun _ => nI 0)) := hD
  exact W.vret hx hb hr (fun t ht hW => ⟨⟨((ad6 h0 q0_ q1_ q2_ q3_ q4_), c3_, c4_), rfl, rfl, by rw [ht]; exact hP9, va_K.moved hW.alike hK9, hD9⟩, hS.F ht⟩) hS.2.2 dX0_init_49
set_option maxHeartbeats 4000000 in
theorem mY_init (l : Launch) (D : va_G) (h0 sz : Nat) : Met l yX1_init (ws_ yX1_init cX1_init 1 none) ({ frames := 1, cells := 3, slots := 18, locals := 12 }) (va_Pc [.ref h0] (PW D [] [(h0, .inr (1, [.int 0, .null, .int 0, .null, .null]))] sz)) (va_Qv (fun u : (Nat → Nat) × ClassId => u.1 0 = h0) (fun u t => va_P D vwCl (wY u.1 u.2 0 0 (fun _ => 0) (fun _ => nI 0) (fun _ => nI 0)) t.heap ∧ va_K D vwCl (tyY u.2) t ∧ va_D (va_A [(h0, .inr (1, [.int 0, .null, .int 0, .null, .null]))] sz) (wY u.1 u.2 0 0 (fun _ => 0) (fun _ => nI 0) (fun _ => nI 0))) (va_A [(h0, .inr (1, [.int 0, .null, .int 0, .null, .null]))] sz)) 3 18 (va_A [(h0, .inr (1, [.int 0, .null, .int 0, .null, .null]))] sz) := by
  refine Met.ofW (cc := cX1_init) (maxL := 1) (ret := none) (by decide) rfl ?_
  intro p e s m args below meth c s₁ B hml hv
  obtain ⟨rfl, hsz, hP, hK, hD0⟩ := hv
  have hx := B.exec
  have hb := B.bytes
  have hr := B.returns
  have hts := atoms_spec (ws := ws_ yX1_init cX1_init 1 none) B.pre
  have hts : ∀ w ∈ lw_all, w.before _ s = true := fun w h => hts w (List.mem_cons_of_mem _ h)
  have hown : s.vm.findClass RX1 = some m.cls := findClass_of_methodNamed B.named
  have hlocks := B.notSynchronized
  have hin : meth.name = "<init>" := (name_of_methodNamed B.named B.method).1
  subst hsz
  have hD := hD0.self (sz := s.heap.size)
  generalize hAe : va_A [(h0, .inr (1, [.int 0, .null, .int 0, .null, .null]))] s.heap.size = A at hD ⊢
  have hA : ∀ q : Nat, s.heap.size ≤ q → A q := fun q h => by rw [← hAe]; exact Or.inr h
  have hS : va_S A s.heap s.heap [] := va_S.rf
  have hP : va_P D vwCl [(h0, .inr (1, [.int 0, .null, .int 0, .null, .null]))] s.heap := hP
  have hl := lv_entry ([.ref h0]) (n := 1) (Nat.le_of_ble_eq_true rfl)
  rw [lg_entry_eq]
  generalize (lg_sl ([.ref h0]) ++ List.replicate (1 - (lg_sl ([.ref h0])).length) Slot.unset).toArray = ls at hl ⊢
  have hl : lv_has ls 1 [(0, .ref h0)] := hl
  refine lv_aload_n hx hb dX1_init_0 rfl (lv_at hl 0 rfl) ?_
  refine W.objInit hx hb hown (hts _ q194) (hts _ q36) (hts _ q37) rfl (by rw [hml]; exact hl.1) rfl dX1_init_1 (Nat.le_of_ble_eq_true rfl) (Nat.le_of_ble_eq_true rfl) ?_
  refine W.eq (g2 := F0 m 4 ls []) rfl ?_
  refine lv_aload_n hx hb dX1_init_4 rfl (lv_at hl 0 rfl) ?_
  refine lv_bipush (v := nI 6) hx hb dX1_init_5 (by decide) ?_
  refine va_newa (atype := .int) (ty := .int) (a0 := (6, .inl (fun _ => nI 0))) (N' := 6) hx hb (hts _ q60) rfl hK hP hD hS hA (fun _ => rfl) (by decide) (by decide) (by decide) (Nat.le_of_ble_eq_true rfl) (Nat.le_of_ble_eq_true rfl) dX1_init_7 (fun q0_ c0_ H hK hP hD hS => ?_)
  have hP : va_P D vwCl [(h0, .inr (1, [.int 0, .null, .int 0, .null, .null])), (q0_, .inl (c0_, 6, .inl (fun _ => nI 0)))] H := hP
  have hD : va_D A [(h0, .inr (1, [.int 0, .null, .int 0, .null, .null])), (q0_, .inl (c0_, 6, .inl (fun _ => nI 0)))] := hD
  have hK : va_K D vwCl [(c0_, .int)] s := hK
  refine va_put (D := D) (ci := 1) (v := .ref q0_) (ty := .array .int) (C := RX1) (T := TX1) (N := 5) hx hb hts in_X1 tyX1 tyX1_ok nmX1 hown hK hP hD hS 0 rfl rfl 1 (by decide) (hts _ q196) (fun _ h9 => h9) rfl (by decide +kernel) rfl rfl (Nat.le_of_ble_eq_true rfl) dX1_init_9 (fun H locs hP hD hS => ?_)
  have hP : va_P D vwCl [(h0, .inr (1, [.int 0, .ref q0_, .int 0, .null, .null])), (q0_, .inl (c0_, 6, .inl (fun _ => nI 0)))] H := hP
  have hD : va_D A [(h0, .inr (1, [.int 0, .ref q0_, .int 0, .null, .null])), (q0_, .inl (c0_, 6, .inl (fun _ => nI 0)))] := hD
  refine lv_aload_n hx hb dX1_init_12 rfl (lv_at hl 0 rfl) ?_
  refine lv_bipush (v := nI 6) hx hb dX1_init_13 (by decide) ?_
  refine va_newa (atype := .int) (ty := .int) (a0 := (6, .inl (fun _ => nI 0))) (N' := 6) hx hb (hts _ q60) rfl hK hP hD hS hA (fun _ => rfl) (by decide) (by decide) (by decide) (Nat.le_of_ble_eq_true rfl) (Nat.le_of_ble_eq_true rfl) dX1_init_15 (fun q1_ c1_ H hK hP hD hS => ?_)
  have hP : va_P D vwCl [(h0, .inr (1, [.int 0, .ref q0_, .int 0, .null, .null])), (q0_, .inl (c0_, 6, .inl (fun _ => nI 0))), (q1_, .inl (c1_, 6, .inl (fun _ => nI 0)))] H := hP
  have hD : va_D A [(h0, .inr (1, [.int 0, .ref q0_, .int 0, .null, .null])), (q0_, .inl (c0_, 6, .inl (fun _ => nI 0))), (q1_, .inl (c1_, 6, .inl (fun _ => nI 0)))] := hD
  have hK : va_K D vwCl [(c0_, .int), (c1_, .int)] s := hK
  refine va_put (D := D) (ci := 1) (v := .ref q1_) (ty := .array .int) (C := RX1) (T := TX1) (N := 5) hx hb hts in_X1 tyX1 tyX1_ok nmX1 hown hK hP hD hS 0 rfl rfl 3 (by decide) (hts _ q198) (fun _ h9 => h9) rfl (by decide +kernel) rfl rfl (Nat.le_of_ble_eq_true rfl) dX1_init_17 (fun H locs hP hD hS => ?_)
  have hP : va_P D vwCl [(h0, .inr (1, [.int 0, .ref q0_, .int 0, .ref q1_, .null])), (q0_, .inl (c0_, 6, .inl (fun _ => nI 0))), (q1_, .inl (c1_, 6, .inl (fun _ => nI 0)))] H := hP
  have hD : va_D A [(h0, .inr (1, [.int 0, .ref q0_, .int 0, .ref q1_, .null])), (q0_, .inl (c0_, 6, .inl (fun _ => nI 0))), (q1_, .inl (c1_, 6, .inl (fun _ => nI 0)))] := hD
  refine lv_aload_n hx hb dX1_init_20 rfl (lv_at hl 0 rfl) ?_
  refine lv_bipush (v := nI 6) hx hb dX1_init_21 (by decide) ?_
  refine va_newa (atype := .int) (ty := .int) (a0 := (6, .inl (fun _ => nI 0))) (N' := 6) hx hb (hts _ q60) rfl hK hP hD hS hA (fun _ => rfl) (by decide) (by decide) (by decide) (Nat.le_of_ble_eq_true rfl) (Nat.le_of_ble_eq_true rfl) dX1_init_23 (fun q2_ c2_ H hK hP hD hS => ?_)
  have hP : va_P D vwCl [(h0, .inr (1, [.int 0, .ref q0_, .int 0, .ref q1_, .null])), (q0_, .inl (c0_, 6, .inl (fun _ => nI 0))), (q1_, .inl (c1_, 6, .inl (fun _ => nI 0))), (q2_, .inl (c2_, 6, .inl (fun _ => nI 0)))] H := hP
  have hD : va_D A [(h0, .inr (1, [.int 0, .ref q0_, .int 0, .ref q1_, .null])), (q0_, .inl (c0_, 6, .inl (fun _ => nI 0))), (q1_, .inl (c1_, 6, .inl (fun _ => nI 0))), (q2_, .inl (c2_, 6, .inl (fun _ => nI 0)))] := hD
  have hK : va_K D vwCl [(c0_, .int), (c1_, .int), (c2_, .int)] s := hK
  refine va_put (D := D) (ci := 1) (v := .ref q2_) (ty := .array .int) (C := RX1) (T := TX1) (N := 5) hx hb hts in_X1 tyX1 tyX1_ok nmX1 hown hK hP hD hS 0 rfl rfl 4 (by decide) (hts _ q199) (fun _ h9 => h9) rfl (by decide +kernel) rfl rfl (Nat.le_of_ble_eq_true rfl) dX1_init_25 (fun H locs hP hD hS => ?_)
  have hP : va_P D vwCl [(h0, .inr (1, [.int 0, .ref q0_, .int 0, .ref q1_, .ref q2_])), (q0_, .inl (c0_, 6, .inl (fun _ => nI 0))), (q1_, .inl (c1_, 6, .inl (fun _ => nI 0))), (q2_, .inl (c2_, 6, .inl (fun _ => nI 0)))] H := hP
  have hD : va_D A [(h0, .inr (1, [.int 0, .ref q0_, .int 0, .ref q1_, .ref q2_])), (q0_, .inl (c0_, 6, .inl (fun _ => nI 0))), (q1_, .inl (c1_, 6, .inl (fun _ => nI 0))), (q2_, .inl (c2_, 6, .inl (fun _ => nI 0)))] := hD
  obtain rfl : c1_ = c0_ := Option.some.inj ((hK.2 1 _ rfl).2.symm.trans (hK.2 0 _ rfl).2)
  obtain rfl : c2_ = c1_ := Option.some.inj ((hK.2 2 _ rfl).2.symm.trans (hK.2 1 _ rfl).2)
  have hK9 := hK.sub (tys' := [(c2_, .int)]) [0] rfl
  have hP9 : va_P D vwCl (wY (ad6 h0 q0_ q1_ q2_ 0 0) c2_ 0 0 (fun _ => 0) (fun _ => nI 0) (fun _ => nI 0)) H := hP
  have hD9 : va_D A (wY (ad6 h0 q0_ q1_ q2_ 0 0) c2_ 0 0 (fun _ => 0) (fun _ => nI 0) (fun _ => nI 0)) := hD
  exact W.vret hx hb hr (fun t ht hW => ⟨⟨((ad6 h0 q0_ q1_ q2_ 0 0), c2_), rfl, rfl, by rw [ht]; exact hP9, va_K.moved hW.alike hK9, hD9⟩, hS.F ht⟩) hS.2.2 dX1_init_28
end
section
set_option maxRecDepth 100000
def R_law : String := "SeatSharesLaw"
def lw_P (b : Addr) (xs : List Int32) (args : Array Value) (s : State) : Prop := args = #[.ref b] ∧ s.IntsAt b xs ∧ xs.length ≤ 192 ∧ (Jvm.Cond.and given_1 narrow_1).before args s = true
def lw_Q (_ : Array Value) (s : State) (o : Outcome) (t : State) : Prop := o = .returned (some (.int 1)) ∧ Framed s o t [] 600000 7290000
def lw_Z (below : List Frame) (a : Array Value) (s : State) : State → Prop := fun t => ∃ o, t.status = .running ∧ Ended t below o ∧ lw_Q a s o t
/-- the law's own end, with 1 on the stack, nothing written that was there before, its room as the claim has it -/
theorem lw_ret {p : Program} {l : Launch} {e : Env} {s : State} {m : MethodId} {below : List Frame} {meth : Method} {c : Code} {b : Nat} (hx : p.tables.exec = Jvm.exec) (hb : c.code = code) (hr : meth.sig.returnType = ret) (hlocks : meth.locks = false) {pc : Nat} {H : Heap} {ls : Array Slot} (hdg : decode code pc = .ok (.ireturn, 1)) : W p l e room_1 s m #[Value.ref b] below meth c H [] 600000 7290000 (lw_Z below #[Value.ref b] s) (F0 m pc ls [.int 1]) := by
  intro T hT X
  obtain ⟨fs, hret, hrun, hended, hW, hframe⟩ := X.leave (v := some (.int 1)) (hlocks := hlocks) (fun h => by rw [hr] at h; cases h)
  have hmeth' : T.vm.method? m = some meth := X.method'
  refine ⟨T.setFrames fs, ?_, .returned (some (.int 1)), hrun, hended, rfl, ⟨_, rfl⟩, hW, hframe⟩
  jvm_step X.here [X.here.top, hx, hb, hdg, hmeth', hr, ret, narrow_b1]
  (try refine ⟨rfl, ?_⟩); (try refine ⟨rfl, ?_⟩)
  first | (intro acts; rw [hret _ acts rfl rfl rfl]) | rw [hret _ _ rfl rfl rfl]
  exact Steps.refl _
/-- what holds at the law's entry: the machine, the code, the tables' words (any of lw_tbl by 'hts w (by decide +kernel)'), the script of L ints xs at the cell b, what the Statement gives of the start (any of its parts by flat_of_before) -/
def lw_At (p : Program) (s : State) (m : MethodId) (meth : Method) (c : Code) (b L : Nat) (xs : Nat → Int32) : Prop :=
  p.tables.exec = Jvm.exec ∧ c.code = code ∧ meth.sig.returnType = ret ∧ c.maxLocals = 4 ∧ s.vm.findClass R_law = some m.cls ∧ (∀ w ∈ lw_tbl, w.before #[Value.ref b] s = true) ∧ va_X b L xs s s.heap ∧ b < s.heap.size ∧ meth.locks = false ∧ (Jvm.Cond.and given_1 narrow_1).before #[Value.ref b] s = true
end
section
set_option maxRecDepth 100000
/-! ===== the law ===== -/
def Inv (c t : Nat) (v : Nat → Nat) : Prop := c ≤ 6 ∧ t ≤ 30 ∧ ∀ j, j < c → v j ≤ 999
def InvS (sp : SP) : Prop := Inv sp.2.1 sp.2.2.1 sp.2.2.2
theorem inv_list {c t : Nat} {v : Nat → Nat} {a : Int32} (h : Inv c t v) : InvS (sp_list c t v a) := by
  unfold sp_list
  split
  · exact h
  · rename_i x hx
    have hb := ix_some (by decide) hx
    split
    · exact h
    · rename_i hc
      have h1 := h.1
      refine ⟨show c + 1 ≤ 6 by omega, h.2.1, fun j hj => ?_⟩
      show va_up v c x j ≤ 999
      by_cases hq : j = c
      · subst hq; rw [vu_eq]; omega
      · rw [vu_ne hq]
        have hj : j < c + 1 := hj
        exact h.2.2 j (by omega)
theorem inv_vote {c t : Nat} {v : Nat → Nat} {a b : Int32} (h : Inv c t v) : InvS (sp_vote c t v a b) := by
  unfold sp_vote
  split
  · exact h
  · split
    · exact h
    · rename_i x hx
      have hb := ix_some (by decide) hx
      exact ⟨h.1, h.2.1, up_le h.2.2 (by omega)⟩
theorem inv_join {c t : Nat} {v : Nat → Nat} {a b : Int32} (h : Inv c t v) : InvS (sp_join c t v a b) := by
  unfold sp_join
  split
  · exact h
  · split
    · exact h
    · split
      · exact h
      · exact ⟨h.1, h.2.1, up_le (up_le h.2.2 (by split <;> omega)) (by omega)⟩
theorem inv_seats {c t : Nat} {v : Nat → Nat} {a : Int32} (h : Inv c t v) : InvS (sp_seats c t v a) := by
  unfold sp_seats
  split
  · exact h
  · rename_i x hx
    have hb := ix_some (by decide) hx
    exact ⟨h.1, show x ≤ 30 by omega, h.2.2⟩
theorem inv_bar {c t : Nat} {v : Nat → Nat} {a : Int32} (h : Inv c t v) : InvS (sp_bar c t v a) := by
  unfold sp_bar
  split
  · exact h
  · exact ⟨h.1, h.2.1, fun j hj => Nat.le_trans barV_le (h.2.2 j hj)⟩
theorem inv_lists {c t : Nat} {v : Nat → Nat} (h : Inv c t v) : InvS (sp_lists c t v) := by
  unfold sp_lists
  exact h
theorem inv_votes {c t : Nat} {v : Nat → Nat} (h : Inv c t v) : InvS (sp_votes c t v) := by
  unfold sp_votes
  exact h
theorem inv_share {c t : Nat} {v : Nat → Nat} {a b : Int32} (h : Inv c t v) : InvS (sp_share c t v a b) := by
  unfold sp_share
  (repeat' split) <;> exact h
theorem inv_next {c t : Nat} {v : Nat → Nat} {a : Int32} (h : Inv c t v) : InvS (sp_next c t v a) := by
  unfold sp_next
  (repeat' split) <;> exact h
theorem inv_missing {c t : Nat} {v : Nat → Nat} {a b : Int32} (h : Inv c t v) : InvS (sp_missing c t v a b) := by
  unfold sp_missing
  (repeat' split) <;> exact h
theorem inv_spare {c t : Nat} {v : Nat → Nat} {a b : Int32} (h : Inv c t v) : InvS (sp_spare c t v a b) := by
  unfold sp_spare
  (repeat' split) <;> exact h
theorem inv_fall {c t : Nat} {v : Nat → Nat} {a : Int32} (h : Inv c t v) : InvS (sp_fall c t v a) := by
  unfold sp_fall
  (repeat' split) <;> exact h
theorem inv_outside {c t : Nat} {v : Nat → Nat} {a : Int32} (h : Inv c t v) : InvS (sp_outside c t v a) := by
  unfold sp_outside
  (repeat' split) <;> exact h
theorem inv_moved {c t : Nat} {v : Nat → Nat} {a b : Int32} (h : Inv c t v) : InvS (sp_moved c t v a b) := by
  unfold sp_moved
  (repeat' split) <;> exact h
theorem inv_majority {c t : Nat} {v : Nat → Nat} {a : Int32} (h : Inv c t v) : InvS (sp_majority c t v a) := by
  unfold sp_majority
  (repeat' split) <;> exact h
abbrev wL (ax : Nat → Nat) (cI cB : ClassId) (ay : Nat → Nat) (cJ : ClassId) (c t : Nat) (v : Nat → Nat) (S K R O : Nat → Int32) (c2 t2 : Nat) (v2 : Nat → Nat) (S2 K2 : Nat → Int32) : va_W := wX ax cI cB c t v S K R O ++ wY ay cJ c2 t2 v2 S2 K2
abbrev tyL (cI cB cJ : ClassId) : List (ClassId × FieldType) := [(cI, .int), (cB, .byte), (cJ, .int)]
section LR
variable {p : Program} {l : Launch} {e : Env} {Rm : Room} {s : State} {m : MethodId} {args : Array Value} {below : List Frame} {meth : Method} {cd : Code} {H : Heap} {locs : List Loc} {cells slots : Nat} {Q : State → Prop}
variable {cc bytes : ByteArray} {pc nL maxL index n f L a0 : Nat} {ls : Array Slot} {rest st As : List Value} {D : va_G} {A : Nat → Prop} {tys : List (ClassId × FieldType)} {own C : String} {y : MethodName} {ret : Option FieldType} {σ : Type} {w : σ → va_W} {u0 : σ}
theorem W_calliF {post : Int32 → σ → Prop} (G : GG D A tys own p s m args cd cc nL) (h : HW D A s.heap (w u0) H locs) (hM : Mi l D tys w y bytes maxL ret f L a0 As u0 post) (Kc : Cal own C y bytes maxL ret index n) (hrc : ∃ cellB : Cell, H[a0]? = some cellB ∧ cellB.vm.isStatics = false ∧ s.vm.findClass C = some cellB.cls) (hn : As.length = n) (hR : f + 1 ≤ Rm.frames ∧ 8 + (maxL + 11) + L ≤ Rm.locals ∧ cells ≤ Rm.cells ∧ slots ≤ Rm.slots) (hsz : ls.size = nL) (hst : st = As.reverse ++ .ref a0 :: rest) (hrs : (rest.map fun v => v.category).sum ≤ 8) (hdg : decode cc pc = .ok (.invokevirtual index, 3))
    (k : ∀ (r : Int32) (u : σ) (H1 : Heap) (locs1 : List Loc), post r u → va_P D vwCl (w u) H1 → va_D (va_A (w u0) H.size) (w u) → (∀ q : Nat, q < H.size → ¬ va_A (w u0) H.size q → H1[q]? = H[q]?) → va_S A s.heap H1 locs1 → W p l e Rm s m args below meth cd H1 locs1 cells slots Q (F0 m (pc + 3) ls (.int r :: rest))) : W p l e Rm s m args below meth cd H locs cells slots Q (F0 m pc ls st) := by
  have hFc := h.free G
  refine va_calli (va_runV (As := As) (rest := rest) G.1 (hM H.size) (cwV n G.1.2.2.2.2 Kc.1 rfl rfl rfl Kc.2 ⟨hR.1, hR.2.1⟩) (h.pre G hrc) rfl hn hsz hst (lv_room hrs) hdg ⟨hR.2.2.1, hR.2.2.2⟩) h.2.2 (fun q _ h => hFc q h) hFc (fun r u t H1 locs1 ht hvm hp hB hz1 hk1 hS => ?_)
  obtain ⟨hP1, hK1, hD1⟩ := hB
  rw [ht] at hP1
  exact k r u H1 locs1 hp hP1 hD1 hk1 hS
variable {ax ay : Nat → Nat} {cI cB cJ : ClassId} {c t c2 t2 : Nat} {v v2 : Nat → Nat} {S K R O S2 K2 : Nat → Int32}
theorem l_callX {sp : SP} (G : GG D A (tyL cI cB cJ) own p s m args cd cc nL) (h : HW D A s.heap (wL ax cI cB ay cJ c t v S K R O c2 t2 v2 S2 K2) H locs) (hM : Mi l D (tyX cI cB) (WX ax cI cB) y bytes maxL ret f L (ax 0) As (c, t, v, S, K, R, O) (pubX sp)) (Kc : Cal own RX0 y bytes maxL ret index n) (hn : As.length = n) (hR : f + 1 ≤ Rm.frames ∧ 8 + (maxL + 11) + L ≤ Rm.locals ∧ cells ≤ Rm.cells ∧ slots ≤ Rm.slots) (hsz : ls.size = nL) (hst : st = As.reverse ++ .ref (ax 0) :: rest) (hrs : (rest.map fun v => v.category).sum ≤ 8) (hdg : decode cc pc = .ok (.invokevirtual index, 3))
    (k : ∀ (S' K' R' O' : Nat → Int32) (H1 : Heap) (locs1 : List Loc), HW D A s.heap (wL ax cI cB ay cJ sp.2.1 sp.2.2.1 sp.2.2.2 S' K' R' O' c2 t2 v2 S2 K2) H1 locs1 → W p l e Rm s m args below meth cd H1 locs1 cells slots Q (F0 m (pc + 3) ls (.int sp.1 :: rest))) : W p l e Rm s m args below meth cd H locs cells slots Q (F0 m pc ls st) := by
  obtain ⟨hP, hD, hS⟩ := h
  have hPx := hP.sub (ws' := wX ax cI cB c t v S K R O) [0, 1, 2, 3, 4, 5] rfl
  have hDx := hD.sub (ws' := wX ax cI cB c t v S K R O) [0, 1, 2, 3, 4, 5] (by decide) rfl
  have Gx : GG D A (tyX cI cB) own p s m args cd cc nL := ⟨G.1, G.2.1.sub [0, 1] rfl, G.2.2⟩
  have hx : HW D A s.heap (wX ax cI cB c t v S K R O) H locs := ⟨hPx, hDx, hS⟩
  refine W_calliF (w := WX ax cI cB) (u0 := (c, t, v, S, K, R, O)) Gx hx hM Kc (va_recv Gx.2.1 hPx (ci := 0) (q0 := 0) rfl rfl) hn hR hsz hst hrs hdg (fun r u H1 locs1 hp hP1 hD1 hk1 hS1 => ?_)
  obtain ⟨rfl, S', K', R', O', rfl⟩ := hp
  obtain ⟨hP2, hD2⟩ := va_join (wr := wY ay cJ c2 t2 v2 S2 K2) (wc := wX ax cI cB c t v S K R O) (w1 := wX ax cI cB sp.2.1 sp.2.2.1 sp.2.2.2 S' K' R' O') hP hD [0, 1, 2, 3, 4, 5] [6, 7, 8, 9] rfl rfl (by decide) (by decide) hk1 (hx.free Gx) hP1 hD1
  exact k S' K' R' O' H1 locs1 ⟨hP2.sub [4, 5, 6, 7, 8, 9, 0, 1, 2, 3] rfl, hD2.sub [4, 5, 6, 7, 8, 9, 0, 1, 2, 3] (by decide) rfl, hS1⟩
theorem l_callY {sp : SP} (G : GG D A (tyL cI cB cJ) own p s m args cd cc nL) (h : HW D A s.heap (wL ax cI cB ay cJ c t v S K R O c2 t2 v2 S2 K2) H locs) (hM : Mi l D (tyY cJ) (WY ay cJ) y bytes maxL ret f L (ay 0) As (c2, t2, v2, S2, K2) (pubY sp)) (Kc : Cal own RX1 y bytes maxL ret index n) (hn : As.length = n) (hR : f + 1 ≤ Rm.frames ∧ 8 + (maxL + 11) + L ≤ Rm.locals ∧ cells ≤ Rm.cells ∧ slots ≤ Rm.slots) (hsz : ls.size = nL) (hst : st = As.reverse ++ .ref (ay 0) :: rest) (hrs : (rest.map fun v => v.category).sum ≤ 8) (hdg : decode cc pc = .ok (.invokevirtual index, 3))
    (k : ∀ (S' K' : Nat → Int32) (H1 : Heap) (locs1 : List Loc), HW D A s.heap (wL ax cI cB ay cJ c t v S K R O sp.2.1 sp.2.2.1 sp.2.2.2 S' K') H1 locs1 → W p l e Rm s m args below meth cd H1 locs1 cells slots Q (F0 m (pc + 3) ls (.int sp.1 :: rest))) : W p l e Rm s m args below meth cd H locs cells slots Q (F0 m pc ls st) := by
  obtain ⟨hP, hD, hS⟩ := h
  have hPx := hP.sub (ws' := wY ay cJ c2 t2 v2 S2 K2) [6, 7, 8, 9] rfl
  have hDx := hD.sub (ws' := wY ay cJ c2 t2 v2 S2 K2) [6, 7, 8, 9] (by decide) rfl
  have Gx : GG D A (tyY cJ) own p s m args cd cc nL := ⟨G.1, G.2.1.sub [2] rfl, G.2.2⟩
  have hx : HW D A s.heap (wY ay cJ c2 t2 v2 S2 K2) H locs := ⟨hPx, hDx, hS⟩
  refine W_calliF (w := WY ay cJ) (u0 := (c2, t2, v2, S2, K2)) Gx hx hM Kc (va_recv Gx.2.1 hPx (ci := 1) (q0 := 0) rfl rfl) hn hR hsz hst hrs hdg (fun r u H1 locs1 hp hP1 hD1 hk1 hS1 => ?_)
  obtain ⟨rfl, S', K', rfl⟩ := hp
  obtain ⟨hP2, hD2⟩ := va_join (wr := wX ax cI cB c t v S K R O) (wc := wY ay cJ c2 t2 v2 S2 K2) (w1 := wY ay cJ sp.2.1 sp.2.2.1 sp.2.2.2 S' K') hP hD [6, 7, 8, 9] [0, 1, 2, 3, 4, 5] rfl rfl (by decide) (by decide) hk1 (hx.free Gx) hP1 hD1
  exact k S' K' H1 locs1 ⟨hP2, hD2, hS1⟩
theorem s_ld (hx : p.tables.exec = Jvm.exec) (hb : cd.code = cc) {b L : Nat} {xs : Nat → Int32} {H0 : Heap} (hX : va_X b L xs s H0) (hbl : b < H0.size) (hbA : ¬ A b) (hS : va_S A H0 H locs) {k : Nat} (hk : k < L) (hL : L ≤ 192) (hdg : decode cc pc = .ok (.iaload, 1)) (kk : W p l e Rm s m args below meth cd H locs cells slots Q (F0 m (pc + 1) ls (.int (xs k) :: rest))) : W p l e Rm s m args below meth cd H locs cells slots Q (F0 m pc ls (.int (nI k) :: .ref b :: rest)) := by
  refine va_sld hx hb hX hbl hbA hS (vp_in_nI hk (by omega)) hdg ?_
  rw [nI_clamp (by omega)]
  exact kk
end LR
theorem law_gt {L i : Nat} (hL : L < 2 ^ 30) (hi : i < 2 ^ 30) : nI L - nI 3 < nI i ↔ L < i + 3 := by
  rw [Int32.lt_iff_toInt_lt, pk_sub_toInt hL (by decide), nI_toInt (by omega)]
  omega
theorem kLX_list : Cal R_law RX0 yX0_list cX0_list 2 (some .int) 13 1 := ⟨lw_V q62 q63 q64 q28 q65, by decide +kernel⟩
theorem kLY_list : Cal R_law RX1 yX1_list cX1_list 2 (some .int) 17 1 := ⟨lw_V q211 q212 q213 q29 q214, by decide +kernel⟩
theorem kLX_vote : Cal R_law RX0 yX0_vote cX0_vote 4 (some .int) 18 2 := ⟨lw_V q70 q71 q72 q28 q73, by decide +kernel⟩
theorem kLY_vote : Cal R_law RX1 yX1_vote cX1_vote 4 (some .int) 22 2 := ⟨lw_V q219 q220 q221 q29 q222, by decide +kernel⟩
theorem kLX_join : Cal R_law RX0 yX0_join cX0_join 4 (some .int) 23 2 := ⟨lw_V q78 q79 q80 q28 q81, by decide +kernel⟩
theorem kLY_join : Cal R_law RX1 yX1_join cX1_join 4 (some .int) 26 2 := ⟨lw_V q227 q228 q229 q29 q230, by decide +kernel⟩
theorem kLX_seats : Cal R_law RX0 yX0_seats cX0_seats 3 (some .int) 27 1 := ⟨lw_V q82 q83 q84 q28 q85, by decide +kernel⟩
theorem kLY_seats : Cal R_law RX1 yX1_seats cX1_seats 3 (some .int) 30 1 := ⟨lw_V q231 q232 q233 q29 q234, by decide +kernel⟩
theorem kLX_bar : Cal R_law RX0 yX0_bar cX0_bar 5 (some .int) 31 1 := ⟨lw_V q86 q87 q88 q28 q89, by decide +kernel⟩
theorem kLY_bar : Cal R_law RX1 yX1_bar cX1_bar 5 (some .int) 34 1 := ⟨lw_V q235 q236 q237 q29 q238, by decide +kernel⟩
theorem kLX_lists : Cal R_law RX0 yX0_lists cX0_lists 1 (some .int) 35 0 := ⟨lw_V q94 q95 q96 q28 q97, by decide +kernel⟩
theorem kLY_lists : Cal R_law RX1 yX1_lists cX1_lists 1 (some .int) 39 0 := ⟨lw_V q243 q244 q245 q29 q246, by decide +kernel⟩
theorem kLX_votes : Cal R_law RX0 yX0_votes cX0_votes 1 (some .int) 40 0 := ⟨lw_V q98 q99 q100 q28 q101, by decide +kernel⟩
theorem kLY_votes : Cal R_law RX1 yX1_votes cX1_votes 3 (some .int) 43 0 := ⟨lw_V q247 q240 q241 q29 q242, by decide +kernel⟩
theorem kLX_share : Cal R_law RX0 yX0_share cX0_share 3 (some .int) 44 2 := ⟨lw_V q102 q103 q104 q28 q105, by decide +kernel⟩
theorem kLY_share : Cal R_law RX1 yX1_share cX1_share 3 (some .int) 47 2 := ⟨lw_V q248 q249 q250 q29 q251, by decide +kernel⟩
theorem kLX_next : Cal R_law RX0 yX0_next cX0_next 3 (some .int) 48 1 := ⟨lw_V q153 q154 q155 q28 q156, by decide +kernel⟩
theorem kLY_next : Cal R_law RX1 yX1_next cX1_next 3 (some .int) 51 1 := ⟨lw_V q281 q282 q283 q29 q284, by decide +kernel⟩
theorem kLX_missing : Cal R_law RX0 yX0_missing cX0_missing 9 (some .int) 52 2 := ⟨lw_V q157 q158 q159 q28 q160, by decide +kernel⟩
theorem kLY_missing : Cal R_law RX1 yX1_missing cX1_missing 6 (some .int) 55 2 := ⟨lw_V q289 q290 q291 q29 q292, by decide +kernel⟩
theorem kLX_spare : Cal R_law RX0 yX0_spare cX0_spare 9 (some .int) 56 2 := ⟨lw_V q165 q166 q167 q28 q168, by decide +kernel⟩
theorem kLY_spare : Cal R_law RX1 yX1_spare cX1_spare 6 (some .int) 59 2 := ⟨lw_V q297 q298 q299 q29 q300, by decide +kernel⟩
theorem kLX_fall : Cal R_law RX0 yX0_fall cX0_fall 5 (some .int) 60 1 := ⟨lw_V q169 q170 q171 q28 q172, by decide +kernel⟩
theorem kLY_fall : Cal R_law RX1 yX1_fall cX1_fall 4 (some .int) 63 1 := ⟨lw_V q301 q302 q303 q29 q304, by decide +kernel⟩
theorem kLX_outside : Cal R_law RX0 yX0_outside cX0_outside 7 (some .int) 64 1 := ⟨lw_V q177 q178 q179 q28 q180, by decide +kernel⟩
theorem kLY_outside : Cal R_law RX1 yX1_outside cX1_outside 7 (some .int) 67 1 := ⟨lw_V q305 q306 q307 q29 q308, by decide +kernel⟩
theorem kLX_moved : Cal R_law RX0 yX0_moved cX0_moved 5 (some .int) 68 2 := ⟨lw_V q181 q182 q183 q28 q184, by decide +kernel⟩
theorem kLY_moved : Cal R_law RX1 yX1_moved cX1_moved 5 (some .int) 71 2 := ⟨lw_V q309 q310 q311 q29 q312, by decide +kernel⟩
theorem kLX_majority : Cal R_law RX0 yX0_majority cX0_majority 7 (some .int) 72 1 := ⟨lw_V q185 q186 q187 q28 q188, by decide +kernel⟩
theorem kLY_majority : Cal R_law RX1 yX1_majority cX1_majority 7 (some .int) 75 1 := ⟨lw_V q313 q314 q315 q29 q316, by decide +kernel⟩
end
section
set_option maxRecDepth 100000
set_option maxHeartbeats 4000000 in
theorem law_loop {p : Program} {e : Env} {s : State} {m : MethodId} {below : List Frame} {meth : Method} {cd : Code} (l : Launch) {b L : Nat} {xs : Nat → Int32} {D : va_G} {ax ay : Nat → Nat} {cI cB cJ : ClassId} (hL : L ≤ 192) (C0 : lw_At p s m meth cd b L xs) (hK : va_K D vwCl (tyL cI cB cJ) s) :
    ∀ (n i c t : Nat) (v : Nat → Nat) (S K R O S2 K2 : Nat → Int32), L + 3 - i < n → i ≤ L + 3 → Inv c t v → ∀ (H : Heap) (locs : List Loc), HW D (fun q : Nat => s.heap.size ≤ q) s.heap (wL ax cI cB ay cJ c t v S K R O c t v S2 K2) H locs → ∀ (ls : Array Slot), lv_has ls 4 [(0, .ref b), (1, .ref (ax 0)), (2, .ref (ay 0)), (3, .int (nI i))] → W p l e room_1 s m #[Value.ref b] below meth cd H locs 600000 7290000 (lw_Z below #[Value.ref b] s) (F0 m 18 ls []) := by
  obtain ⟨hx, hb, hr, hml, hown, hts0, hX, hbl, hlocks, hgv⟩ := id C0
  have hts : ∀ w ∈ lw_all, w.before #[Value.ref b] s = true := fun w h => hts0 w (lw_all_tbl h)
  have hbA : ¬ (fun q : Nat => s.heap.size ≤ q) b := Nat.not_le.mpr hbl
  have G : GG D (fun q : Nat => s.heap.size ≤ q) (tyL cI cB cJ) R_law p s m #[Value.ref b] cd code 4 := ⟨⟨hx, hb, hml, hown, hts⟩, hK, fun _ h => h⟩
  intro n
  induction n with
  | zero =>
    intro i c t v S K R O S2 K2 hm
    exact absurd hm (Nat.not_lt_zero _)
  | succ n ih =>
    intro i c t v S K R O S2 K2 hm hi hI H locs h ls hl
    have hc := hI.1
    have ht := hI.2.1
    have hv := hI.2.2
    have J493 : ∀ (c1 t1 : Nat) (v1 : Nat → Nat) (S K R O S2 K2 : Nat → Int32), i + 3 ≤ L → Inv c1 t1 v1 → ∀ (H : Heap) (locs : List Loc), HW D (fun q : Nat => s.heap.size ≤ q) s.heap (wL ax cI cB ay cJ c1 t1 v1 S K R O c1 t1 v1 S2 K2) H locs → W p l e room_1 s m #[Value.ref b] below meth cd H locs 600000 7290000 (lw_Z below #[Value.ref b] s) (F0 m 493 ls []) := by
      intro c1 t1 v1 S K R O S2 K2 h3 hI1 H locs h
      refine lv_iinc (v := nI (i + 3)) (lv' := [(3, .int (nI (i + 3))), (0, .ref b), (1, .ref (ax 0)), (2, .ref (ay 0))]) hx hb dL_law_493 hl (k := 3) rfl (inc3 _) (by decide) rfl (fun ls hl => ?_)
      refine lv_goto (tgt := 18) hx hb dL_law_496 (by decide) ?_
      exact ih (i + 3) c1 t1 v1 S K R O S2 K2 (by omega) (by omega) hI1 H locs h ls (lv_sub hl [1, 2, 3, 0] rfl)
    refine lv_iload_n hx hb dL_law_18 rfl (lv_at hl 3 rfl) ?_
    refine lv_aload_n hx hb dL_law_19 rfl (lv_at hl 0 rfl) ?_
    refine va_slen hx hb hX hbl hbA h.2.2 dL_law_20 ?_
    refine lv_iconst (v := nI 3) hx hb dL_law_21 (by decide) ?_
    refine lv_isub hx hb dL_law_22 ?_
    refine lv_icmp_gt (tgt := 499) hx hb dL_law_23 (by decide) (fun c23 => ?_) (fun c23 => ?_)
    · refine lv_iconst (v := 1) hx hb dL_law_499 (by decide) ?_
      exact va_forget h.2.2.2.2 (lw_ret hx hb hr hlocks dL_law_500)
    have h3 : i + 3 ≤ L := by
      have q1 := mt (law_gt (L := L) (i := i) (by omega) (by omega)).mpr c23
      omega
    refine lv_aload_n hx hb dL_law_26 rfl (lv_at hl 0 rfl) ?_
    refine lv_iload_n hx hb dL_law_27 rfl (lv_at hl 3 rfl) ?_
    refine s_ld hx hb hX hbl hbA h.2.2 (by omega) hL dL_law_28 ?_
    refine lv_bipush (v := nI 15) hx hb dL_law_29 (by decide) ?_
    refine lv_iand hx hb dL_law_31 ?_
    obtain ⟨j, hj, ej⟩ := pk_andE (xs i) (m := nI 15) 4 (by decide)
    refine n_toe ej ?_
    clear ej
    rcases (show j = 0 ∨ j = 1 ∨ j = 2 ∨ j = 3 ∨ j = 4 ∨ j = 5 ∨ j = 6 ∨ j = 7 ∨ j = 8 ∨ j = 9 ∨ j = 10 ∨ j = 11 ∨ j = 12 ∨ j = 13 ∨ j = 14 ∨ j = 15 by omega) with rfl | rfl | rfl | rfl | rfl | rfl | rfl | rfl | rfl | rfl | rfl | rfl | rfl | rfl | rfl | rfl
    · refine lv_tableIn (off := 76) (tgt := 108) hx hb dL_law_32 (by decide) (by decide) (by decide) (by decide) ?_
      refine lv_aload_n hx hb dL_law_108 rfl (lv_at hl 1 rfl) ?_
      refine lv_aload_n hx hb dL_law_109 rfl (lv_at hl 0 rfl) ?_
      refine lv_iload_n hx hb dL_law_110 rfl (lv_at hl 3 rfl) ?_
      refine lv_iconst (v := nI 1) hx hb dL_law_111 (by decide) ?_
      refine n_iadd hx hb dL_law_112 ?_
      refine s_ld hx hb hX hbl hbA h.2.2 (by omega) hL dL_law_113 ?_
      refine l_callX (sp := (sp_list c t v (xs (i + 1)))) G h (mX_list l D ax cI cB c t v S K R O (xs (i + 1)) hc ht hv) kLX_list rfl ⟨Nat.le_of_ble_eq_true rfl, Nat.le_of_ble_eq_true rfl, Nat.le_refl _, Nat.le_refl _⟩ hl.1 rfl (Nat.le_of_ble_eq_true rfl) dL_law_114 (fun S1 K1 R1 O1 H locs h => ?_)
      refine lv_aload_n hx hb dL_law_117 rfl (lv_at hl 2 rfl) ?_
      refine lv_aload_n hx hb dL_law_118 rfl (lv_at hl 0 rfl) ?_
      refine lv_iload_n hx hb dL_law_119 rfl (lv_at hl 3 rfl) ?_
      refine lv_iconst (v := nI 1) hx hb dL_law_120 (by decide) ?_
      refine n_iadd hx hb dL_law_121 ?_
      refine s_ld hx hb hX hbl hbA h.2.2 (by omega) hL dL_law_122 ?_
      refine l_callY (sp := (sp_list c t v (xs (i + 1)))) G h (mY_list l D ay cJ c t v S2 K2 (xs (i + 1)) hc ht hv) kLY_list rfl ⟨Nat.le_of_ble_eq_true rfl, Nat.le_of_ble_eq_true rfl, Nat.le_refl _, Nat.le_refl _⟩ hl.1 rfl (Nat.le_of_ble_eq_true rfl) dL_law_123 (fun S3 K3 H locs h => ?_)
      refine lv_icmp_eq (tgt := 493) hx hb dL_law_126 (by decide) (fun _ => ?_) (fun q => absurd rfl q)
      exact J493 _ _ _ _ _ _ _ _ _ h3 (inv_list hI) _ _ h
    · refine lv_tableIn (off := 99) (tgt := 131) hx hb dL_law_32 (by decide) (by decide) (by decide) (by decide) ?_
      refine lv_aload_n hx hb dL_law_131 rfl (lv_at hl 1 rfl) ?_
      refine lv_aload_n hx hb dL_law_132 rfl (lv_at hl 0 rfl) ?_
      refine lv_iload_n hx hb dL_law_133 rfl (lv_at hl 3 rfl) ?_
      refine lv_iconst (v := nI 1) hx hb dL_law_134 (by decide) ?_
      refine n_iadd hx hb dL_law_135 ?_
      refine s_ld hx hb hX hbl hbA h.2.2 (by omega) hL dL_law_136 ?_
      refine lv_aload_n hx hb dL_law_137 rfl (lv_at hl 0 rfl) ?_
      refine lv_iload_n hx hb dL_law_138 rfl (lv_at hl 3 rfl) ?_
      refine lv_iconst (v := nI 2) hx hb dL_law_139 (by decide) ?_
      refine n_iadd hx hb dL_law_140 ?_
      refine s_ld hx hb hX hbl hbA h.2.2 (by omega) hL dL_law_141 ?_
      refine l_callX (sp := (sp_vote c t v (xs (i + 1)) (xs (i + 2)))) G h (mX_vote l D ax cI cB c t v S K R O (xs (i + 1)) (xs (i + 2)) hc ht hv) kLX_vote rfl ⟨Nat.le_of_ble_eq_true rfl, Nat.le_of_ble_eq_true rfl, Nat.le_refl _, Nat.le_refl _⟩ hl.1 rfl (Nat.le_of_ble_eq_true rfl) dL_law_142 (fun S1 K1 R1 O1 H locs h => ?_)
      refine lv_aload_n hx hb dL_law_145 rfl (lv_at hl 2 rfl) ?_
      refine lv_aload_n hx hb dL_law_146 rfl (lv_at hl 0 rfl) ?_
      refine lv_iload_n hx hb dL_law_147 rfl (lv_at hl 3 rfl) ?_
      refine lv_iconst (v := nI 1) hx hb dL_law_148 (by decide) ?_
      refine n_iadd hx hb dL_law_149 ?_
      refine s_ld hx hb hX hbl hbA h.2.2 (by omega) hL dL_law_150 ?_
      refine lv_aload_n hx hb dL_law_151 rfl (lv_at hl 0 rfl) ?_
      refine lv_iload_n hx hb dL_law_152 rfl (lv_at hl 3 rfl) ?_
      refine lv_iconst (v := nI 2) hx hb dL_law_153 (by decide) ?_
      refine n_iadd hx hb dL_law_154 ?_
      refine s_ld hx hb hX hbl hbA h.2.2 (by omega) hL dL_law_155 ?_
      refine l_callY (sp := (sp_vote c t v (xs (i + 1)) (xs (i + 2)))) G h (mY_vote l D ay cJ c t v S2 K2 (xs (i + 1)) (xs (i + 2)) hc ht hv) kLY_vote rfl ⟨Nat.le_of_ble_eq_true rfl, Nat.le_of_ble_eq_true rfl, Nat.le_refl _, Nat.le_refl _⟩ hl.1 rfl (Nat.le_of_ble_eq_true rfl) dL_law_156 (fun S3 K3 H locs h => ?_)
      refine lv_icmp_eq (tgt := 493) hx hb dL_law_159 (by decide) (fun _ => ?_) (fun q => absurd rfl q)
      exact J493 _ _ _ _ _ _ _ _ _ h3 (inv_vote hI) _ _ h
    · refine lv_tableIn (off := 132) (tgt := 164) hx hb dL_law_32 (by decide) (by decide) (by decide) (by decide) ?_
      refine lv_aload_n hx hb dL_law_164 rfl (lv_at hl 1 rfl) ?_
      refine lv_aload_n hx hb dL_law_165 rfl (lv_at hl 0 rfl) ?_
      refine lv_iload_n hx hb dL_law_166 rfl (lv_at hl 3 rfl) ?_
      refine lv_iconst (v := nI 1) hx hb dL_law_167 (by decide) ?_
      refine n_iadd hx hb dL_law_168 ?_
      refine s_ld hx hb hX hbl hbA h.2.2 (by omega) hL dL_law_169 ?_
      refine lv_aload_n hx hb dL_law_170 rfl (lv_at hl 0 rfl) ?_
      refine lv_iload_n hx hb dL_law_171 rfl (lv_at hl 3 rfl) ?_
      refine lv_iconst (v := nI 2) hx hb dL_law_172 (by decide) ?_
      refine n_iadd hx hb dL_law_173 ?_
      refine s_ld hx hb hX hbl hbA h.2.2 (by omega) hL dL_law_174 ?_
      refine l_callX (sp := (sp_join c t v (xs (i + 1)) (xs (i + 2)))) G h (mX_join l D ax cI cB c t v S K R O (xs (i + 1)) (xs (i + 2)) hc ht hv) kLX_join rfl ⟨Nat.le_of_ble_eq_true rfl, Nat.le_of_ble_eq_true rfl, Nat.le_refl _, Nat.le_refl _⟩ hl.1 rfl (Nat.le_of_ble_eq_true rfl) dL_law_175 (fun S1 K1 R1 O1 H locs h => ?_)
      refine lv_aload_n hx hb dL_law_178 rfl (lv_at hl 2 rfl) ?_
      refine lv_aload_n hx hb dL_law_179 rfl (lv_at hl 0 rfl) ?_
      refine lv_iload_n hx hb dL_law_180 rfl (lv_at hl 3 rfl) ?_
      refine lv_iconst (v := nI 1) hx hb dL_law_181 (by decide) ?_
      refine n_iadd hx hb dL_law_182 ?_
      refine s_ld hx hb hX hbl hbA h.2.2 (by omega) hL dL_law_183 ?_
      refine lv_aload_n hx hb dL_law_184 rfl (lv_at hl 0 rfl) ?_
      refine lv_iload_n hx hb dL_law_185 rfl (lv_at hl 3 rfl) ?_
      refine lv_iconst (v := nI 2) hx hb dL_law_186 (by decide) ?_
      refine n_iadd hx hb dL_law_187 ?_
      refine s_ld hx hb hX hbl hbA h.2.2 (by omega) hL dL_law_188 ?_
      refine l_callY (sp := (sp_join c t v (xs (i + 1)) (xs (i + 2)))) G h (mY_join l D ay cJ c t v S2 K2 (xs (i + 1)) (xs (i + 2)) hc ht hv) kLY_join rfl ⟨Nat.le_of_ble_eq_true rfl, Nat.le_of_ble_eq_true rfl, Nat.le_refl _, Nat.le_refl _⟩ hl.1 rfl (Nat.le_of_ble_eq_true rfl) dL_law_189 (fun S3 K3 H locs h => ?_)
      refine lv_icmp_eq (tgt := 493) hx hb dL_law_192 (by decide) (fun _ => ?_) (fun q => absurd rfl q)
      exact J493 _ _ _ _ _ _ _ _ _ h3 (inv_join hI) _ _ h
    · refine lv_tableIn (off := 165) (tgt := 197) hx hb dL_law_32 (by decide) (by decide) (by decide) (by decide) ?_
      refine lv_aload_n hx hb dL_law_197 rfl (lv_at hl 1 rfl) ?_
      refine lv_aload_n hx hb dL_law_198 rfl (lv_at hl 0 rfl) ?_
      refine lv_iload_n hx hb dL_law_199 rfl (lv_at hl 3 rfl) ?_
      refine lv_iconst (v := nI 1) hx hb dL_law_200 (by decide) ?_
      refine n_iadd hx hb dL_law_201 ?_
      refine s_ld hx hb hX hbl hbA h.2.2 (by omega) hL dL_law_202 ?_
      refine l_callX (sp := (sp_seats c t v (xs (i + 1)))) G h (mX_seats l D ax cI cB c t v S K R O (xs (i + 1)) hc ht hv) kLX_seats rfl ⟨Nat.le_of_ble_eq_true rfl, Nat.le_of_ble_eq_true rfl, Nat.le_refl _, Nat.le_refl _⟩ hl.1 rfl (Nat.le_of_ble_eq_true rfl) dL_law_203 (fun S1 K1 R1 O1 H locs h => ?_)
      refine lv_aload_n hx hb dL_law_206 rfl (lv_at hl 2 rfl) ?_
      refine lv_aload_n hx hb dL_law_207 rfl (lv_at hl 0 rfl) ?_
      refine lv_iload_n hx hb dL_law_208 rfl (lv_at hl 3 rfl) ?_
      refine lv_iconst (v := nI 1) hx hb dL_law_209 (by decide) ?_
      refine n_iadd hx hb dL_law_210 ?_
      refine s_ld hx hb hX hbl hbA h.2.2 (by omega) hL dL_law_211 ?_
      refine l_callY (sp := (sp_seats c t v (xs (i + 1)))) G h (mY_seats l D ay cJ c t v S2 K2 (xs (i + 1)) hc ht hv) kLY_seats rfl ⟨Nat.le_of_ble_eq_true rfl, Nat.le_of_ble_eq_true rfl, Nat.le_refl _, Nat.le_refl _⟩ hl.1 rfl (Nat.le_of_ble_eq_true rfl) dL_law_212 (fun S3 K3 H locs h => ?_)
      refine lv_icmp_eq (tgt := 493) hx hb dL_law_215 (by decide) (fun _ => ?_) (fun q => absurd rfl q)
      exact J493 _ _ _ _ _ _ _ _ _ h3 (inv_seats hI) _ _ h
    · refine lv_tableIn (off := 188) (tgt := 220) hx hb dL_law_32 (by decide) (by decide) (by decide) (by decide) ?_
      refine lv_aload_n hx hb dL_law_220 rfl (lv_at hl 1 rfl) ?_
      refine lv_aload_n hx hb dL_law_221 rfl (lv_at hl 0 rfl) ?_
      refine lv_iload_n hx hb dL_law_222 rfl (lv_at hl 3 rfl) ?_
      refine lv_iconst (v := nI 1) hx hb dL_law_223 (by decide) ?_
      refine n_iadd hx hb dL_law_224 ?_
      refine s_ld hx hb hX hbl hbA h.2.2 (by omega) hL dL_law_225 ?_
      refine l_callX (sp := (sp_bar c t v (xs (i + 1)))) G h (mX_bar l D ax cI cB c t v S K R O (xs (i + 1)) hc ht hv) kLX_bar rfl ⟨Nat.le_of_ble_eq_true rfl, Nat.le_of_ble_eq_true rfl, Nat.le_refl _, Nat.le_refl _⟩ hl.1 rfl (Nat.le_of_ble_eq_true rfl) dL_law_226 (fun S1 K1 R1 O1 H locs h => ?_)
      refine lv_aload_n hx hb dL_law_229 rfl (lv_at hl 2 rfl) ?_
      refine lv_aload_n hx hb dL_law_230 rfl (lv_at hl 0 rfl) ?_
      refine lv_iload_n hx hb dL_law_231 rfl (lv_at hl 3 rfl) ?_
      refine lv_iconst (v := nI 1) hx hb dL_law_232 (by decide) ?_
      refine n_iadd hx hb dL_law_233 ?_
      refine s_ld hx hb hX hbl hbA h.2.2 (by omega) hL dL_law_234 ?_
      refine l_callY (sp := (sp_bar c t v (xs (i + 1)))) G h (mY_bar l D ay cJ c t v S2 K2 (xs (i + 1)) hc ht hv) kLY_bar rfl ⟨Nat.le_of_ble_eq_true rfl, Nat.le_of_ble_eq_true rfl, Nat.le_refl _, Nat.le_refl _⟩ hl.1 rfl (Nat.le_of_ble_eq_true rfl) dL_law_235 (fun S3 K3 H locs h => ?_)
      refine lv_icmp_eq (tgt := 493) hx hb dL_law_238 (by decide) (fun _ => ?_) (fun q => absurd rfl q)
      exact J493 _ _ _ _ _ _ _ _ _ h3 (inv_bar hI) _ _ h
    · refine lv_tableIn (off := 211) (tgt := 243) hx hb dL_law_32 (by decide) (by decide) (by decide) (by decide) ?_
      refine lv_aload_n hx hb dL_law_243 rfl (lv_at hl 1 rfl) ?_
      refine l_callX (sp := (sp_lists c t v)) G h (mX_lists l D ax cI cB c t v S K R O hc ht hv) kLX_lists rfl ⟨Nat.le_of_ble_eq_true rfl, Nat.le_of_ble_eq_true rfl, Nat.le_refl _, Nat.le_refl _⟩ hl.1 rfl (Nat.le_of_ble_eq_true rfl) dL_law_244 (fun S1 K1 R1 O1 H locs h => ?_)
      refine lv_aload_n hx hb dL_law_247 rfl (lv_at hl 2 rfl) ?_
      refine l_callY (sp := (sp_lists c t v)) G h (mY_lists l D ay cJ c t v S2 K2 hc ht hv) kLY_lists rfl ⟨Nat.le_of_ble_eq_true rfl, Nat.le_of_ble_eq_true rfl, Nat.le_refl _, Nat.le_refl _⟩ hl.1 rfl (Nat.le_of_ble_eq_true rfl) dL_law_248 (fun S3 K3 H locs h => ?_)
      refine lv_icmp_eq (tgt := 493) hx hb dL_law_251 (by decide) (fun _ => ?_) (fun q => absurd rfl q)
      exact J493 _ _ _ _ _ _ _ _ _ h3 (inv_lists hI) _ _ h
    · refine lv_tableIn (off := 224) (tgt := 256) hx hb dL_law_32 (by decide) (by decide) (by decide) (by decide) ?_
      refine lv_aload_n hx hb dL_law_256 rfl (lv_at hl 1 rfl) ?_
      refine l_callX (sp := (sp_votes c t v)) G h (mX_votes l D ax cI cB c t v S K R O hc ht hv) kLX_votes rfl ⟨Nat.le_of_ble_eq_true rfl, Nat.le_of_ble_eq_true rfl, Nat.le_refl _, Nat.le_refl _⟩ hl.1 rfl (Nat.le_of_ble_eq_true rfl) dL_law_257 (fun S1 K1 R1 O1 H locs h => ?_)
      refine lv_aload_n hx hb dL_law_260 rfl (lv_at hl 2 rfl) ?_
      refine l_callY (sp := (sp_votes c t v)) G h (mYp_votes l D ay cJ c t v S2 K2 hc ht hv) kLY_votes rfl ⟨Nat.le_of_ble_eq_true rfl, Nat.le_of_ble_eq_true rfl, Nat.le_refl _, Nat.le_refl _⟩ hl.1 rfl (Nat.le_of_ble_eq_true rfl) dL_law_261 (fun S3 K3 H locs h => ?_)
      refine lv_icmp_eq (tgt := 493) hx hb dL_law_264 (by decide) (fun _ => ?_) (fun q => absurd rfl q)
      exact J493 _ _ _ _ _ _ _ _ _ h3 (inv_votes hI) _ _ h
    · refine lv_tableIn (off := 237) (tgt := 269) hx hb dL_law_32 (by decide) (by decide) (by decide) (by decide) ?_
      refine lv_aload_n hx hb dL_law_269 rfl (lv_at hl 1 rfl) ?_
      refine lv_aload_n hx hb dL_law_270 rfl (lv_at hl 0 rfl) ?_
      refine lv_iload_n hx hb dL_law_271 rfl (lv_at hl 3 rfl) ?_
      refine lv_iconst (v := nI 1) hx hb dL_law_272 (by decide) ?_
      refine n_iadd hx hb dL_law_273 ?_
      refine s_ld hx hb hX hbl hbA h.2.2 (by omega) hL dL_law_274 ?_
      refine lv_aload_n hx hb dL_law_275 rfl (lv_at hl 0 rfl) ?_
      refine lv_iload_n hx hb dL_law_276 rfl (lv_at hl 3 rfl) ?_
      refine lv_iconst (v := nI 2) hx hb dL_law_277 (by decide) ?_
      refine n_iadd hx hb dL_law_278 ?_
      refine s_ld hx hb hX hbl hbA h.2.2 (by omega) hL dL_law_279 ?_
      refine l_callX (sp := (sp_share c t v (xs (i + 1)) (xs (i + 2)))) G h (mX_share l D ax cI cB c t v S K R O (xs (i + 1)) (xs (i + 2)) hc ht hv) kLX_share rfl ⟨Nat.le_of_ble_eq_true rfl, Nat.le_of_ble_eq_true rfl, Nat.le_refl _, Nat.le_refl _⟩ hl.1 rfl (Nat.le_of_ble_eq_true rfl) dL_law_280 (fun S1 K1 R1 O1 H locs h => ?_)
      refine lv_aload_n hx hb dL_law_283 rfl (lv_at hl 2 rfl) ?_
      refine lv_aload_n hx hb dL_law_284 rfl (lv_at hl 0 rfl) ?_
      refine lv_iload_n hx hb dL_law_285 rfl (lv_at hl 3 rfl) ?_
      refine lv_iconst (v := nI 1) hx hb dL_law_286 (by decide) ?_
      refine n_iadd hx hb dL_law_287 ?_
      refine s_ld hx hb hX hbl hbA h.2.2 (by omega) hL dL_law_288 ?_
      refine lv_aload_n hx hb dL_law_289 rfl (lv_at hl 0 rfl) ?_
      refine lv_iload_n hx hb dL_law_290 rfl (lv_at hl 3 rfl) ?_
      refine lv_iconst (v := nI 2) hx hb dL_law_291 (by decide) ?_
      refine n_iadd hx hb dL_law_292 ?_
      refine s_ld hx hb hX hbl hbA h.2.2 (by omega) hL dL_law_293 ?_
      refine l_callY (sp := (sp_share c t v (xs (i + 1)) (xs (i + 2)))) G h (mY_share l D ay cJ c t v S2 K2 (xs (i + 1)) (xs (i + 2)) hc ht hv) kLY_share rfl ⟨Nat.le_of_ble_eq_true rfl, Nat.le_of_ble_eq_true rfl, Nat.le_refl _, Nat.le_refl _⟩ hl.1 rfl (Nat.le_of_ble_eq_true rfl) dL_law_294 (fun S3 K3 H locs h => ?_)
      refine lv_icmp_eq (tgt := 493) hx hb dL_law_297 (by decide) (fun _ => ?_) (fun q => absurd rfl q)
      exact J493 _ _ _ _ _ _ _ _ _ h3 (inv_share hI) _ _ h
    · refine lv_tableIn (off := 270) (tgt := 302) hx hb dL_law_32 (by decide) (by decide) (by decide) (by decide) ?_
      refine lv_aload_n hx hb dL_law_302 rfl (lv_at hl 1 rfl) ?_
      refine lv_aload_n hx hb dL_law_303 rfl (lv_at hl 0 rfl) ?_
      refine lv_iload_n hx hb dL_law_304 rfl (lv_at hl 3 rfl) ?_
      refine lv_iconst (v := nI 1) hx hb dL_law_305 (by decide) ?_
      refine n_iadd hx hb dL_law_306 ?_
      refine s_ld hx hb hX hbl hbA h.2.2 (by omega) hL dL_law_307 ?_
      refine l_callX (sp := (sp_next c t v (xs (i + 1)))) G h (mX_next l D ax cI cB c t v S K R O (xs (i + 1)) hc ht hv) kLX_next rfl ⟨Nat.le_of_ble_eq_true rfl, Nat.le_of_ble_eq_true rfl, Nat.le_refl _, Nat.le_refl _⟩ hl.1 rfl (Nat.le_of_ble_eq_true rfl) dL_law_308 (fun S1 K1 R1 O1 H locs h => ?_)
      refine lv_aload_n hx hb dL_law_311 rfl (lv_at hl 2 rfl) ?_
      refine lv_aload_n hx hb dL_law_312 rfl (lv_at hl 0 rfl) ?_
      refine lv_iload_n hx hb dL_law_313 rfl (lv_at hl 3 rfl) ?_
      refine lv_iconst (v := nI 1) hx hb dL_law_314 (by decide) ?_
      refine n_iadd hx hb dL_law_315 ?_
      refine s_ld hx hb hX hbl hbA h.2.2 (by omega) hL dL_law_316 ?_
      refine l_callY (sp := (sp_next c t v (xs (i + 1)))) G h (mY_next l D ay cJ c t v S2 K2 (xs (i + 1)) hc ht hv) kLY_next rfl ⟨Nat.le_of_ble_eq_true rfl, Nat.le_of_ble_eq_true rfl, Nat.le_refl _, Nat.le_refl _⟩ hl.1 rfl (Nat.le_of_ble_eq_true rfl) dL_law_317 (fun S3 K3 H locs h => ?_)
      refine lv_icmp_eq (tgt := 493) hx hb dL_law_320 (by decide) (fun _ => ?_) (fun q => absurd rfl q)
      exact J493 _ _ _ _ _ _ _ _ _ h3 (inv_next hI) _ _ h
    · refine lv_tableIn (off := 293) (tgt := 325) hx hb dL_law_32 (by decide) (by decide) (by decide) (by decide) ?_
      refine lv_aload_n hx hb dL_law_325 rfl (lv_at hl 1 rfl) ?_
      refine lv_aload_n hx hb dL_law_326 rfl (lv_at hl 0 rfl) ?_
      refine lv_iload_n hx hb dL_law_327 rfl (lv_at hl 3 rfl) ?_
      refine lv_iconst (v := nI 1) hx hb dL_law_328 (by decide) ?_
      refine n_iadd hx hb dL_law_329 ?_
      refine s_ld hx hb hX hbl hbA h.2.2 (by omega) hL dL_law_330 ?_
      refine lv_aload_n hx hb dL_law_331 rfl (lv_at hl 0 rfl) ?_
      refine lv_iload_n hx hb dL_law_332 rfl (lv_at hl 3 rfl) ?_
      refine lv_iconst (v := nI 2) hx hb dL_law_333 (by decide) ?_
      refine n_iadd hx hb dL_law_334 ?_
      refine s_ld hx hb hX hbl hbA h.2.2 (by omega) hL dL_law_335 ?_
      refine l_callX (sp := (sp_missing c t v (xs (i + 1)) (xs (i + 2)))) G h (mX_missing l D ax cI cB c t v S K R O (xs (i + 1)) (xs (i + 2)) hc ht hv) kLX_missing rfl ⟨Nat.le_of_ble_eq_true rfl, Nat.le_of_ble_eq_true rfl, Nat.le_refl _, Nat.le_refl _⟩ hl.1 rfl (Nat.le_of_ble_eq_true rfl) dL_law_336 (fun S1 K1 R1 O1 H locs h => ?_)
      refine lv_aload_n hx hb dL_law_339 rfl (lv_at hl 2 rfl) ?_
      refine lv_aload_n hx hb dL_law_340 rfl (lv_at hl 0 rfl) ?_
      refine lv_iload_n hx hb dL_law_341 rfl (lv_at hl 3 rfl) ?_
      refine lv_iconst (v := nI 1) hx hb dL_law_342 (by decide) ?_
      refine n_iadd hx hb dL_law_343 ?_
      refine s_ld hx hb hX hbl hbA h.2.2 (by omega) hL dL_law_344 ?_
      refine lv_aload_n hx hb dL_law_345 rfl (lv_at hl 0 rfl) ?_
      refine lv_iload_n hx hb dL_law_346 rfl (lv_at hl 3 rfl) ?_
      refine lv_iconst (v := nI 2) hx hb dL_law_347 (by decide) ?_
      refine n_iadd hx hb dL_law_348 ?_
      refine s_ld hx hb hX hbl hbA h.2.2 (by omega) hL dL_law_349 ?_
      refine l_callY (sp := (sp_missing c t v (xs (i + 1)) (xs (i + 2)))) G h (mY_missing l D ay cJ c t v S2 K2 (xs (i + 1)) (xs (i + 2)) hc ht hv) kLY_missing rfl ⟨Nat.le_of_ble_eq_true rfl, Nat.le_of_ble_eq_true rfl, Nat.le_refl _, Nat.le_refl _⟩ hl.1 rfl (Nat.le_of_ble_eq_true rfl) dL_law_350 (fun S3 K3 H locs h => ?_)
      refine lv_icmp_eq (tgt := 493) hx hb dL_law_353 (by decide) (fun _ => ?_) (fun q => absurd rfl q)
      exact J493 _ _ _ _ _ _ _ _ _ h3 (inv_missing hI) _ _ h
    · refine lv_tableIn (off := 326) (tgt := 358) hx hb dL_law_32 (by decide) (by decide) (by decide) (by decide) ?_
      refine lv_aload_n hx hb dL_law_358 rfl (lv_at hl 1 rfl) ?_
      refine lv_aload_n hx hb dL_law_359 rfl (lv_at hl 0 rfl) ?_
      refine lv_iload_n hx hb dL_law_360 rfl (lv_at hl 3 rfl) ?_
      refine lv_iconst (v := nI 1) hx hb dL_law_361 (by decide) ?_
      refine n_iadd hx hb dL_law_362 ?_
      refine s_ld hx hb hX hbl hbA h.2.2 (by omega) hL dL_law_363 ?_
      refine lv_aload_n hx hb dL_law_364 rfl (lv_at hl 0 rfl) ?_
      refine lv_iload_n hx hb dL_law_365 rfl (lv_at hl 3 rfl) ?_
      refine lv_iconst (v := nI 2) hx hb dL_law_366 (by decide) ?_
      refine n_iadd hx hb dL_law_367 ?_
      refine s_ld hx hb hX hbl hbA h.2.2 (by omega) hL dL_law_368 ?_
      refine l_callX (sp := (sp_spare c t v (xs (i + 1)) (xs (i + 2)))) G h (mX_spare l D ax cI cB c t v S K R O (xs (i + 1)) (xs (i + 2)) hc ht hv) kLX_spare rfl ⟨Nat.le_of_ble_eq_true rfl, Nat.le_of_ble_eq_true rfl, Nat.le_refl _, Nat.le_refl _⟩ hl.1 rfl (Nat.le_of_ble_eq_true rfl) dL_law_369 (fun S1 K1 R1 O1 H locs h => ?_)
      refine lv_aload_n hx hb dL_law_372 rfl (lv_at hl 2 rfl) ?_
      refine lv_aload_n hx hb dL_law_373 rfl (lv_at hl 0 rfl) ?_
      refine lv_iload_n hx hb dL_law_374 rfl (lv_at hl 3 rfl) ?_
      refine lv_iconst (v := nI 1) hx hb dL_law_375 (by decide) ?_
      refine n_iadd hx hb dL_law_376 ?_
      refine s_ld hx hb hX hbl hbA h.2.2 (by omega) hL dL_law_377 ?_
      refine lv_aload_n hx hb dL_law_378 rfl (lv_at hl 0 rfl) ?_
      refine lv_iload_n hx hb dL_law_379 rfl (lv_at hl 3 rfl) ?_
      refine lv_iconst (v := nI 2) hx hb dL_law_380 (by decide) ?_
      refine n_iadd hx hb dL_law_381 ?_
      refine s_ld hx hb hX hbl hbA h.2.2 (by omega) hL dL_law_382 ?_
      refine l_callY (sp := (sp_spare c t v (xs (i + 1)) (xs (i + 2)))) G h (mY_spare l D ay cJ c t v S2 K2 (xs (i + 1)) (xs (i + 2)) hc ht hv) kLY_spare rfl ⟨Nat.le_of_ble_eq_true rfl, Nat.le_of_ble_eq_true rfl, Nat.le_refl _, Nat.le_refl _⟩ hl.1 rfl (Nat.le_of_ble_eq_true rfl) dL_law_383 (fun S3 K3 H locs h => ?_)
      refine lv_icmp_eq (tgt := 493) hx hb dL_law_386 (by decide) (fun _ => ?_) (fun q => absurd rfl q)
      exact J493 _ _ _ _ _ _ _ _ _ h3 (inv_spare hI) _ _ h
    · refine lv_tableIn (off := 359) (tgt := 391) hx hb dL_law_32 (by decide) (by decide) (by decide) (by decide) ?_
      refine lv_aload_n hx hb dL_law_391 rfl (lv_at hl 1 rfl) ?_
      refine lv_aload_n hx hb dL_law_392 rfl (lv_at hl 0 rfl) ?_
      refine lv_iload_n hx hb dL_law_393 rfl (lv_at hl 3 rfl) ?_
      refine lv_iconst (v := nI 1) hx hb dL_law_394 (by decide) ?_
      refine n_iadd hx hb dL_law_395 ?_
      refine s_ld hx hb hX hbl hbA h.2.2 (by omega) hL dL_law_396 ?_
      refine l_callX (sp := (sp_fall c t v (xs (i + 1)))) G h (mX_fall l D ax cI cB c t v S K R O (xs (i + 1)) hc ht hv) kLX_fall rfl ⟨Nat.le_of_ble_eq_true rfl, Nat.le_of_ble_eq_true rfl, Nat.le_refl _, Nat.le_refl _⟩ hl.1 rfl (Nat.le_of_ble_eq_true rfl) dL_law_397 (fun S1 K1 R1 O1 H locs h => ?_)
      refine lv_aload_n hx hb dL_law_400 rfl (lv_at hl 2 rfl) ?_
      refine lv_aload_n hx hb dL_law_401 rfl (lv_at hl 0 rfl) ?_
      refine lv_iload_n hx hb dL_law_402 rfl (lv_at hl 3 rfl) ?_
      refine lv_iconst (v := nI 1) hx hb dL_law_403 (by decide) ?_
      refine n_iadd hx hb dL_law_404 ?_
      refine s_ld hx hb hX hbl hbA h.2.2 (by omega) hL dL_law_405 ?_
      refine l_callY (sp := (sp_fall c t v (xs (i + 1)))) G h (mY_fall l D ay cJ c t v S2 K2 (xs (i + 1)) hc ht hv) kLY_fall rfl ⟨Nat.le_of_ble_eq_true rfl, Nat.le_of_ble_eq_true rfl, Nat.le_refl _, Nat.le_refl _⟩ hl.1 rfl (Nat.le_of_ble_eq_true rfl) dL_law_406 (fun S3 K3 H locs h => ?_)
      refine lv_icmp_eq (tgt := 493) hx hb dL_law_409 (by decide) (fun _ => ?_) (fun q => absurd rfl q)
      exact J493 _ _ _ _ _ _ _ _ _ h3 (inv_fall hI) _ _ h
    · refine lv_tableIn (off := 382) (tgt := 414) hx hb dL_law_32 (by decide) (by decide) (by decide) (by decide) ?_
      refine lv_aload_n hx hb dL_law_414 rfl (lv_at hl 1 rfl) ?_
      refine lv_aload_n hx hb dL_law_415 rfl (lv_at hl 0 rfl) ?_
      refine lv_iload_n hx hb dL_law_416 rfl (lv_at hl 3 rfl) ?_
      refine lv_iconst (v := nI 1) hx hb dL_law_417 (by decide) ?_
      refine n_iadd hx hb dL_law_418 ?_
      refine s_ld hx hb hX hbl hbA h.2.2 (by omega) hL dL_law_419 ?_
      refine l_callX (sp := (sp_outside c t v (xs (i + 1)))) G h (mX_outside l D ax cI cB c t v S K R O (xs (i + 1)) hc ht hv) kLX_outside rfl ⟨Nat.le_of_ble_eq_true rfl, Nat.le_of_ble_eq_true rfl, Nat.le_refl _, Nat.le_refl _⟩ hl.1 rfl (Nat.le_of_ble_eq_true rfl) dL_law_420 (fun S1 K1 R1 O1 H locs h => ?_)
      refine lv_aload_n hx hb dL_law_423 rfl (lv_at hl 2 rfl) ?_
      refine lv_aload_n hx hb dL_law_424 rfl (lv_at hl 0 rfl) ?_
      refine lv_iload_n hx hb dL_law_425 rfl (lv_at hl 3 rfl) ?_
      refine lv_iconst (v := nI 1) hx hb dL_law_426 (by decide) ?_
      refine n_iadd hx hb dL_law_427 ?_
      refine s_ld hx hb hX hbl hbA h.2.2 (by omega) hL dL_law_428 ?_
      refine l_callY (sp := (sp_outside c t v (xs (i + 1)))) G h (mY_outside l D ay cJ c t v S2 K2 (xs (i + 1)) hc ht hv) kLY_outside rfl ⟨Nat.le_of_ble_eq_true rfl, Nat.le_of_ble_eq_true rfl, Nat.le_refl _, Nat.le_refl _⟩ hl.1 rfl (Nat.le_of_ble_eq_true rfl) dL_law_429 (fun S3 K3 H locs h => ?_)
      refine lv_icmp_eq (tgt := 493) hx hb dL_law_432 (by decide) (fun _ => ?_) (fun q => absurd rfl q)
      exact J493 _ _ _ _ _ _ _ _ _ h3 (inv_outside hI) _ _ h
    · refine lv_tableIn (off := 405) (tgt := 437) hx hb dL_law_32 (by decide) (by decide) (by decide) (by decide) ?_
      refine lv_aload_n hx hb dL_law_437 rfl (lv_at hl 1 rfl) ?_
      refine lv_aload_n hx hb dL_law_438 rfl (lv_at hl 0 rfl) ?_
      refine lv_iload_n hx hb dL_law_439 rfl (lv_at hl 3 rfl) ?_
      refine lv_iconst (v := nI 1) hx hb dL_law_440 (by decide) ?_
      refine n_iadd hx hb dL_law_441 ?_
      refine s_ld hx hb hX hbl hbA h.2.2 (by omega) hL dL_law_442 ?_
      refine lv_aload_n hx hb dL_law_443 rfl (lv_at hl 0 rfl) ?_
      refine lv_iload_n hx hb dL_law_444 rfl (lv_at hl 3 rfl) ?_
      refine lv_iconst (v := nI 2) hx hb dL_law_445 (by decide) ?_
      refine n_iadd hx hb dL_law_446 ?_
      refine s_ld hx hb hX hbl hbA h.2.2 (by omega) hL dL_law_447 ?_
      refine l_callX (sp := (sp_moved c t v (xs (i + 1)) (xs (i + 2)))) G h (mX_moved l D ax cI cB c t v S K R O (xs (i + 1)) (xs (i + 2)) hc ht hv) kLX_moved rfl ⟨Nat.le_of_ble_eq_true rfl, Nat.le_of_ble_eq_true rfl, Nat.le_refl _, Nat.le_refl _⟩ hl.1 rfl (Nat.le_of_ble_eq_true rfl) dL_law_448 (fun S1 K1 R1 O1 H locs h => ?_)
      refine lv_aload_n hx hb dL_law_451 rfl (lv_at hl 2 rfl) ?_
      refine lv_aload_n hx hb dL_law_452 rfl (lv_at hl 0 rfl) ?_
      refine lv_iload_n hx hb dL_law_453 rfl (lv_at hl 3 rfl) ?_
      refine lv_iconst (v := nI 1) hx hb dL_law_454 (by decide) ?_
      refine n_iadd hx hb dL_law_455 ?_
      refine s_ld hx hb hX hbl hbA h.2.2 (by omega) hL dL_law_456 ?_
      refine lv_aload_n hx hb dL_law_457 rfl (lv_at hl 0 rfl) ?_
      refine lv_iload_n hx hb dL_law_458 rfl (lv_at hl 3 rfl) ?_
      refine lv_iconst (v := nI 2) hx hb dL_law_459 (by decide) ?_
      refine n_iadd hx hb dL_law_460 ?_
      refine s_ld hx hb hX hbl hbA h.2.2 (by omega) hL dL_law_461 ?_
      refine l_callY (sp := (sp_moved c t v (xs (i + 1)) (xs (i + 2)))) G h (mY_moved l D ay cJ c t v S2 K2 (xs (i + 1)) (xs (i + 2)) hc ht hv) kLY_moved rfl ⟨Nat.le_of_ble_eq_true rfl, Nat.le_of_ble_eq_true rfl, Nat.le_refl _, Nat.le_refl _⟩ hl.1 rfl (Nat.le_of_ble_eq_true rfl) dL_law_462 (fun S3 K3 H locs h => ?_)
      refine lv_icmp_eq (tgt := 493) hx hb dL_law_465 (by decide) (fun _ => ?_) (fun q => absurd rfl q)
      exact J493 _ _ _ _ _ _ _ _ _ h3 (inv_moved hI) _ _ h
    · refine lv_tableIn (off := 438) (tgt := 470) hx hb dL_law_32 (by decide) (by decide) (by decide) (by decide) ?_
      refine lv_aload_n hx hb dL_law_470 rfl (lv_at hl 1 rfl) ?_
      refine lv_aload_n hx hb dL_law_471 rfl (lv_at hl 0 rfl) ?_
      refine lv_iload_n hx hb dL_law_472 rfl (lv_at hl 3 rfl) ?_
      refine lv_iconst (v := nI 1) hx hb dL_law_473 (by decide) ?_
      refine n_iadd hx hb dL_law_474 ?_
      refine s_ld hx hb hX hbl hbA h.2.2 (by omega) hL dL_law_475 ?_
      refine l_callX (sp := (sp_majority c t v (xs (i + 1)))) G h (mX_majority l D ax cI cB c t v S K R O (xs (i + 1)) hc ht hv) kLX_majority rfl ⟨Nat.le_of_ble_eq_true rfl, Nat.le_of_ble_eq_true rfl, Nat.le_refl _, Nat.le_refl _⟩ hl.1 rfl (Nat.le_of_ble_eq_true rfl) dL_law_476 (fun S1 K1 R1 O1 H locs h => ?_)
      refine lv_aload_n hx hb dL_law_479 rfl (lv_at hl 2 rfl) ?_
      refine lv_aload_n hx hb dL_law_480 rfl (lv_at hl 0 rfl) ?_
      refine lv_iload_n hx hb dL_law_481 rfl (lv_at hl 3 rfl) ?_
      refine lv_iconst (v := nI 1) hx hb dL_law_482 (by decide) ?_
      refine n_iadd hx hb dL_law_483 ?_
      refine s_ld hx hb hX hbl hbA h.2.2 (by omega) hL dL_law_484 ?_
      refine l_callY (sp := (sp_majority c t v (xs (i + 1)))) G h (mY_majority l D ay cJ c t v S2 K2 (xs (i + 1)) hc ht hv) kLY_majority rfl ⟨Nat.le_of_ble_eq_true rfl, Nat.le_of_ble_eq_true rfl, Nat.le_refl _, Nat.le_refl _⟩ hl.1 rfl (Nat.le_of_ble_eq_true rfl) dL_law_485 (fun S3 K3 H locs h => ?_)
      refine lv_icmp_eq (tgt := 493) hx hb dL_law_488 (by decide) (fun _ => ?_) (fun q => absurd rfl q)
      exact J493 _ _ _ _ _ _ _ _ _ h3 (inv_majority hI) _ _ h
    · refine lv_tableOut (tgt := 493) hx hb dL_law_32 (Or.inr (by decide)) (by decide) ?_
      exact J493 _ _ _ _ _ _ _ _ _ h3 hI _ _ h
end
section
set_option maxRecDepth 100000
set_option maxHeartbeats 4000000 in
/-- THE LAW, from its entry -/
theorem whole_start {p : Program} {e : Env} {s : State} {m : MethodId} {below : List Frame} {meth : Method} {c : Code} (l : Launch) {b L : Nat} {xs : Nat → Int32} (hL : L ≤ 192) (C0 : lw_At p s m meth c b L xs) : W p l e room_1 s m #[Value.ref b] below meth c s.heap [] 0 0 (lw_Z below #[Value.ref b] s) (entryFrame m ([Value.ref b] : List Value).toArray 4) := by
  obtain ⟨hx, hb, hr, hml, hown, hts0, hX, hbl, hlocks, hgv⟩ := id C0
  have hts : ∀ w ∈ lw_all, w.before #[Value.ref b] s = true := fun w h => hts0 w (lw_all_tbl h)
  have hA : ∀ q : Nat, s.heap.size ≤ q → (fun q : Nat => s.heap.size ≤ q) q := fun _ h => h
  obtain ⟨c0_, iS0, hKn0⟩ := u_known (C := RX0) (T := TX0) (N := 7) (n := 7) hts in_X0 (hts _ q31)
  obtain ⟨c1_, iS1, hKn1⟩ := u_known (C := RX1) (T := TX1) (N := 5) (n := 5) hts in_X1 (hts _ q190)
  obtain ⟨D, hKc⟩ : ∃ D : va_G, ∀ (k : Nat) (q : vw_C), vwCl[k]? = some q → u_Kn s q.1 q.2.1 q.2.2 (D.1 k) (D.2 k) := by
    refine ⟨(fun k => if k = 0 then c0_ else c1_, fun k => if k = 0 then iS0 else iS1), ?_⟩
    intro k q hq
    match k, hq with
    | 0, hq => cases hq; exact hKn0
    | 1, hq => cases hq; exact hKn1
    | k + 2, hq => simp [vwCl] at hq
  have hS : va_S (fun q : Nat => s.heap.size ≤ q) s.heap s.heap [] := va_S.rf
  have hK : va_K D vwCl [] s := ⟨hKc, fun k q h => by simp at h⟩
  have hP : va_P D vwCl [] s.heap := fun k q h => by simp at h
  have hD : va_D (fun q : Nat => s.heap.size ≤ q) [] := ⟨fun i j p q h => by simp at h, fun k q h => by simp at h⟩
  have hl := lv_entry ([.ref b]) (n := 4) (Nat.le_of_ble_eq_true rfl)
  rw [lg_entry_eq]
  generalize (lg_sl ([.ref b]) ++ List.replicate (4 - (lg_sl ([.ref b])).length) Slot.unset).toArray = ls at hl ⊢
  have hl : lv_has ls 4 [(0, .ref b)] := hl
  refine va_new (ci := 0) (fs := [.int 0, .int 0, .null, .null, .null, .null, .null]) (C := RX0) (T := TX0) (N := 7) hx hb hts in_X0 tyX0 tyX0_ok hown (hts _ q30) (hts _ q31) (hts _ q28) hK hP hD hS hA rfl (fun j hj => by rcases (show j = 0 ∨ j = 1 ∨ j = 2 ∨ j = 3 ∨ j = 4 ∨ j = 5 ∨ j = 6 by omega) with rfl | rfl | rfl | rfl | rfl | rfl | rfl <;> rfl) (Nat.le_of_ble_eq_true rfl) (Nat.le_of_ble_eq_true rfl) dL_law_0 (fun qx H hP hD hS => ?_)
  have hP : va_P D vwCl [(qx, .inr (0, [.int 0, .int 0, .null, .null, .null, .null, .null]))] H := hP
  have hD : va_D (fun q : Nat => s.heap.size ≤ q) [(qx, .inr (0, [.int 0, .int 0, .null, .null, .null, .null, .null]))] := hD
  refine W.widen (k := 1) (n := 7) (by omega) (by omega) ?_
  refine lv_dup hx hb dL_law_3 rfl ?_
  have hFc := va_free (wc := [(qx, .inr (0, [.int 0, .int 0, .null, .null, .null, .null, .null]))]) hD hS hA [0] rfl
  refine va_callv (va_runI (As := []) (rest := [.ref qx]) ⟨hx, hb, hml, hown, hts⟩ (mX_init l D qx H.size) (cwI 0 hts (lw_meth q34) rfl rfl rfl (hts _ q28) (hts _ q32) (hts _ q33) rfl (by decide +kernel) ⟨Nat.le_of_ble_eq_true rfl, Nat.le_of_ble_eq_true rfl⟩) ⟨fun a U g mk q => by obtain ⟨q0, q1, qP, qK, qD⟩ := q; exact ⟨q0, q1, qP, va_K.moved (u := U) (U := U.calling g mk a) (Vm.Alike.refl U.vm) qK, qD⟩, fun U hU hW => ⟨rfl, by rw [hU], by rw [hU]; exact hP, va_K.moved hW.alike hK, hD.weaken (fun _ _ _ _ => trivial)⟩⟩ rfl rfl hl.1 rfl (lv_room (Nat.le_of_ble_eq_true rfl)) dL_law_4 ⟨Nat.le_of_ble_eq_true rfl, Nat.le_of_ble_eq_true rfl⟩) hS (fun q _ h => hFc q h) hFc (fun u t H1 locs ht hvm hw hB hz1 hk1 hS => ?_)
  obtain ⟨ax, cI, cB⟩ := u
  have hw : ax 0 = qx := hw
  subst hw
  obtain ⟨hP1, hK1, hD1⟩ := hB
  rw [ht] at hP1
  have hK1 := va_K.moved hvm.symm hK1
  obtain ⟨hP, hD⟩ := va_join (wr := []) (w1 := wX ax cI cB 0 0 (fun _ => 0) (fun _ => nI 0) (fun _ => nI 0) (fun _ => nI 0) (fun _ => nI 0)) hP hD [0] [] rfl rfl (by decide) (by decide) hk1 hFc hP1 hD1
  have hK : va_K D vwCl (tyX cI cB) s := hK1
  generalize H1 = H at hP hS ⊢
  have hP : va_P D vwCl (wX ax cI cB 0 0 (fun _ => 0) (fun _ => nI 0) (fun _ => nI 0) (fun _ => nI 0) (fun _ => nI 0)) H := hP
  have hD : va_D (fun q : Nat => s.heap.size ≤ q) (wX ax cI cB 0 0 (fun _ => 0) (fun _ => nI 0) (fun _ => nI 0) (fun _ => nI 0) (fun _ => nI 0)) := hD
  refine W.widen (k := 6) (n := 37) (by omega) (by omega) ?_
  refine lv_astore_n (lv' := [(1, .ref (ax 0)), (0, .ref b)]) hx hb dL_law_7 rfl hl (by decide) rfl (fun ls hl => ?_)
  refine va_new (ci := 1) (fs := [.int 0, .null, .int 0, .null, .null]) (C := RX1) (T := TX1) (N := 5) hx hb hts in_X1 tyX1 tyX1_ok hown (hts _ q189) (hts _ q190) (hts _ q29) hK hP hD hS hA rfl (fun j hj => by rcases (show j = 0 ∨ j = 1 ∨ j = 2 ∨ j = 3 ∨ j = 4 by omega) with rfl | rfl | rfl | rfl | rfl <;> rfl) (Nat.le_of_ble_eq_true rfl) (Nat.le_of_ble_eq_true rfl) dL_law_8 (fun qy H hP hD hS => ?_)
  have hP : va_P D vwCl ((wX ax cI cB 0 0 (fun _ => 0) (fun _ => nI 0) (fun _ => nI 0) (fun _ => nI 0) (fun _ => nI 0)) ++ [(qy, .inr (1, [.int 0, .null, .int 0, .null, .null]))]) H := hP
  have hD : va_D (fun q : Nat => s.heap.size ≤ q) ((wX ax cI cB 0 0 (fun _ => 0) (fun _ => nI 0) (fun _ => nI 0) (fun _ => nI 0) (fun _ => nI 0)) ++ [(qy, .inr (1, [.int 0, .null, .int 0, .null, .null]))]) := hD
  refine W.widen (k := 7) (n := 42) (by omega) (by omega) ?_
  refine lv_dup hx hb dL_law_11 rfl ?_
  have hPc := hP.sub (ws' := [(qy, .inr (1, [.int 0, .null, .int 0, .null, .null]))]) [6] rfl
  have hDc := hD.sub (ws' := [(qy, .inr (1, [.int 0, .null, .int 0, .null, .null]))]) [6] (by decide) rfl
  have hKc2 := hK.sub (tys' := []) [] rfl
  have hFc := va_free (wc := [(qy, .inr (1, [.int 0, .null, .int 0, .null, .null]))]) hD hS hA [6] rfl
  refine va_callv (va_runI (As := []) (rest := [.ref qy]) ⟨hx, hb, hml, hown, hts⟩ (mY_init l D qy H.size) (cwI 0 hts (lw_meth q193) rfl rfl rfl (hts _ q29) (hts _ q191) (hts _ q192) rfl (by decide +kernel) ⟨Nat.le_of_ble_eq_true rfl, Nat.le_of_ble_eq_true rfl⟩) ⟨fun a U g mk q => by obtain ⟨q0, q1, qP, qK, qD⟩ := q; exact ⟨q0, q1, qP, va_K.moved (u := U) (U := U.calling g mk a) (Vm.Alike.refl U.vm) qK, qD⟩, fun U hU hW => ⟨rfl, by rw [hU], by rw [hU]; exact hPc, va_K.moved hW.alike hKc2, hDc.weaken (fun _ _ _ _ => trivial)⟩⟩ rfl rfl hl.1 rfl (lv_room (Nat.le_of_ble_eq_true rfl)) dL_law_12 ⟨Nat.le_of_ble_eq_true rfl, Nat.le_of_ble_eq_true rfl⟩) hS (fun q _ h => hFc q h) hFc (fun u t H1 locs ht hvm hw hB hz1 hk1 hS => ?_)
  obtain ⟨ay, cJ⟩ := u
  have hw : ay 0 = qy := hw
  subst hw
  obtain ⟨hP1, hK1, hD1⟩ := hB
  rw [ht] at hP1
  have hK1 := va_K.moved hvm.symm hK1
  obtain ⟨hP, hD⟩ := va_join (wr := wX ax cI cB 0 0 (fun _ => 0) (fun _ => nI 0) (fun _ => nI 0) (fun _ => nI 0) (fun _ => nI 0)) (w1 := wY ay cJ 0 0 (fun _ => 0) (fun _ => nI 0) (fun _ => nI 0)) hP hD [6] [0, 1, 2, 3, 4, 5] rfl rfl (by decide) (by decide) hk1 hFc hP1 hD1
  have hK : va_K D vwCl (tyL cI cB cJ) s := hK.app hK1
  generalize H1 = H at hP hS ⊢
  refine W.widen (k := 600000) (n := 7290000) (by omega) (by omega) ?_
  refine lv_astore_n (lv' := [(2, .ref (ay 0)), (1, .ref (ax 0)), (0, .ref b)]) hx hb dL_law_15 rfl hl (by decide) rfl (fun ls hl => ?_)
  refine lv_iconst (v := nI 0) hx hb dL_law_16 (by decide) ?_
  refine lv_istore_n (lv' := [(3, .int (nI 0)), (2, .ref (ay 0)), (1, .ref (ax 0)), (0, .ref b)]) hx hb dL_law_17 rfl hl (by decide) rfl (fun ls hl => ?_)
  exact law_loop l hL C0 hK _ 0 0 0 (fun _ => 0) _ _ _ _ _ _ (Nat.lt_succ_self _) (Nat.zero_le _) ⟨by omega, by omega, fun j hj => absurd hj (Nat.not_lt_zero _)⟩ H _ ⟨hP, hD, hS⟩ ls (lv_sub hl [3, 2, 1, 0] rfl)
set_option maxHeartbeats 4000000 in
theorem lw_walk (l : Launch) (b : Addr) (xs : List Int32) : MetFree l x (headSpec (Jvm.Cond.code x code maxLocals ret :: tables_1) room_1) (lw_P b xs) (fun _ _ _ _ _ => True) lw_Q := by
  refine MetFree.of_bodyS (code := code) (maxLocals := maxLocals) (ret := ret) (by decide) ?_ ?_
  · intro args s m h hn
    obtain ⟨meth, c, h1, h2, h3, h4, h5, h6, -, -⟩ := Cond.code_spec hn (atoms_spec (ws := Jvm.Cond.code x code maxLocals ret :: tables_1) h _ List.mem_cons_self)
    exact ⟨meth, c, h1, h2, h3, h4, h5, h6⟩
  · intro p e s m args below meth c s₁ B hml0 hP _
    obtain ⟨rfl, hx, hbd, hgv⟩ := hP
    obtain ⟨scr, harrAt, hlist, hof, hsmall⟩ := hx
    obtain ⟨hcb, hkn, -, -⟩ := State.arrayAt?_spec harrAt
    have hown : s.vm.findClass R_law = some m.cls := findClass_of_methodNamed B.named
    have hts0 : ∀ c ∈ (Jvm.Cond.code x code maxLocals ret :: tables_1), c.before #[Value.ref b] s = true := atoms_spec (ws := Jvm.Cond.code x code maxLocals ret :: tables_1) B.pre
    have hts : ∀ w ∈ lw_tbl, w.before #[Value.ref b] s = true := k2_hts_sels lw_privs (fun w hw => hts0 w (List.mem_cons_of_mem _ hw)) lw_privs_ok
    have hml : c.maxLocals = 4 := B.maxLocals_eq (hts0 _ List.mem_cons_self)
    have X₀ : Stand p l e room_1 s m #[Value.ref b] below meth c s₁ [] 0 0 := Stand.of_body B
    have hh0 : s₁.heap = s.heap := by rw [B.state]; rfl
    have hsz : scr.slots.size = xs.length := by rw [← Array.length_toList, hlist, List.length_map]
    have hval : ∀ j : Nat, j < xs.length → scr.slots[j]? = some (.int (xs.getD j 0)) := fun j hj => by
      rw [← Array.getElem?_toList, hlist]
      simp [hj]
    have hbl : b < s.heap.size := (Array.getElem?_eq_some_iff.mp hcb).1
    have hX : va_X b xs.length (fun j => xs.getD j 0) s s.heap := ⟨scr, hcb, hof, hkn, hsz, hval⟩
    have K : W p l e room_1 s m #[Value.ref b] below meth c s₁.heap [] 0 0 (lw_Z below #[Value.ref b] s) (entryFrame m ([Value.ref b] : List Value).toArray 4) := by
      rw [hh0]
      exact whole_start l hbd ⟨B.exec, B.bytes, B.returns, hml, hown, hts, hX, hbl, B.notSynchronized, hgv⟩
    obtain ⟨t, a1, o, b1, b2, b3⟩ := K s₁ rfl X₀
    exact ⟨t, o, a1, b1, b2, b3⟩
theorem lw_pre_spec {args : Array Value} {s : State} (h : (Jvm.Cond.and given_1 narrow_1).before args s = true) (hr : rest_1_c.before args s = true) : ∃ (b : Addr) (xs : List Int32), lw_P b xs args s := by
  have hs := flat_of_before _ h
  have hq := flat_of_before _ hr
  have hc : (Cond.count 1).before args s = true := hs _ (by decide +kernel)
  have harr : (Cond.arrayOf (.arg 0) .int).before args s = true := hs _ (by decide +kernel)
  have hle : (Cond.le (.length (.arg 0)) (.int 192)).before args s = true := hs _ (by decide +kernel)
  have hlen : (Cond.isInt (.length (.arg 0))).before args s = true := hq _ (by decide +kernel)
  have hall : (Cond.all (.arg 0) (.isInt (.elem (.arg 0) (.index 0)))).before args s = true := hq _ (by decide +kernel)
  obtain ⟨b, xs, hb, hx⟩ := State.ints_of_pre rfl harr hlen hall
  have hsm : xs.length < 2 ^ 31 := hx.choose_spec.2.2.2
  have hev : (Term.length (.arg 0)).eval args s none [] s = some (.int xs.length.toInt32) := hx.length_eval hb
  have hv := Cond.le_ints hev (show (Term.int 192).eval args s none [] s = some (.int 192) from rfl)
  have hd : xs.length.toInt32 ≤ 192 := by
    simpa [Cond.before, Cond.holds, hv] using hle
  have hN : xs.length ≤ 192 := (Int32.ofNat_le_ofNat hsm (by decide)).mp (show Int32.ofNat xs.length ≤ Int32.ofNat 192 from hd)
  exact ⟨b, xs, Cond.one_arg hc (show args[0]? = some (.ref b) from hb), hx, hN, h⟩
theorem lw_comes (l : Launch) : Comes l x (Jvm.Cond.code x code maxLocals ret :: tables_1) room_1 (fun tb e args s => Calls_1 tb e args s ∧ rest_1 tb e args s ∧ Pre_1 tb e args s)
    (fun _ _ args s o t => lw_Q args s o t) := by
  intro p e ha hc hk s m args below hf hfit hheap happ hpre
  obtain ⟨b, xs, hP⟩ := lw_pre_spec hpre.2.2 hpre.2.1
  obtain ⟨k, o, h1, h2, h3, hQ⟩ := lw_walk l b xs p e ha hc hk s m args below hf ((Spec.applies_iff_loose hf).mp happ).1 hP trivial
  exact ⟨k, o, h1, h2, h3, hQ⟩
theorem lw_frame {s t : State} {o : Outcome} {args : Array Value} (h : Framed s o t [] 600000 7290000) :
    Framed s o t (fieldLocs frame_1_writes args s ++ arrayLocs frame_1_arrays args s ++ staticLocs frame_1_statics s) 600000 7290000 := h
theorem lw_limb (L : Cond) (hL : ∀ (args : Array Value) (s t : State), L.after args s (.returned (some (.int 1))) t = true) :
    ArmFor flags0 classFile x code maxLocals ret World_1 tables_1 room_1 Calls_1 rest_1 Pre_1
      (fun tb e a s o t => postC L tb e a s o t ∧ Framed s o t (fieldLocs frame_1_writes a s ++ arrayLocs frame_1_arrays a s ++ staticLocs frame_1_statics s) 600000 7290000) := by
  intro l _ _ _ p e ha hc hk s m args below hf hfit hheap happ hpre
  obtain ⟨k, o, h1, h2, h3, rfl, hF⟩ := lw_comes l p e ha hc hk s m args below hf hfit hheap happ hpre
  exact ⟨k, _, h1, h2, h3, hL args s _, lw_frame hF⟩
theorem i_vc : Claimed_1_1 ∧ Claimed_1_2 := ⟨lw_limb limb_1_1 (fun args s t => by simp [limb_1_1, Cond.after, Cond.holds, Cond.value]), lw_limb limb_1_2 (fun args s t => Cond.after_iff.mpr (by
  first | (rw [show limb_1_2 = Cond.eq .result (.int 1) from rfl, Cond.eq_ints (x := 1) (y := 1) rfl rfl]; simp; done) | (simp [limb_1_2, Cond.value, Term.eval]; done)))⟩
end
