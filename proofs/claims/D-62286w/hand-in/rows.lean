section
-- ===== PART A: goes FIRST, ahead of the names: the tables' words, and 'selects' of the private methods out of them =====
/-- a private method of a class that the tables say can be made, by its rows of tables_1 -/
def lw_okq (q : MethodName × Nat) : Prop := (q.1.cls ≠ "java/lang/invoke/MethodHandle" ∧ q.1.cls ≠ "java/lang/invoke/VarHandle") ∧ Cond.instantiable q.1.cls q.2 ∈ tables_1 ∧ Cond.privateMethod q.1 ∈ tables_1 ∧ Cond.instanceMethod q.1 ∈ tables_1
set_option maxRecDepth 100000
theorem lw_t1 {w : Cond} (h : w ∈ tables_1_1) : w ∈ tables_1 := List.mem_append_left _ h
theorem lw_t2 {w : Cond} (h : w ∈ tables_1_2) : w ∈ tables_1 := List.mem_append_right _ h
theorem lw_p0 : lw_okq (⟨"ContactNetwork", "retry", "()V"⟩, 25) := ⟨⟨by decide +kernel, by decide +kernel⟩, lw_t1 (List.mem_of_getElem? (i := 4) rfl), lw_t1 (List.mem_of_getElem? (i := 103) rfl), lw_t1 (List.mem_of_getElem? (i := 104) rfl)⟩
theorem lw_p1 : lw_okq (⟨"ContactNetwork", "plan", "(I)V"⟩, 25) := ⟨⟨by decide +kernel, by decide +kernel⟩, lw_t1 (List.mem_of_getElem? (i := 4) rfl), lw_t1 (List.mem_of_getElem? (i := 107) rfl), lw_t1 (List.mem_of_getElem? (i := 108) rfl)⟩
theorem lw_p2 : lw_okq (⟨"ContactNetwork", "comesInBy", "(II)I"⟩, 25) := ⟨⟨by decide +kernel, by decide +kernel⟩, lw_t1 (List.mem_of_getElem? (i := 4) rfl), lw_t1 (List.mem_of_getElem? (i := 111) rfl), lw_t1 (List.mem_of_getElem? (i := 112) rfl)⟩
theorem lw_p3 : lw_okq (⟨"ContactNetwork", "ticksFor", "(II)I"⟩, 25) := ⟨⟨by decide +kernel, by decide +kernel⟩, lw_t1 (List.mem_of_getElem? (i := 4) rfl), lw_t1 (List.mem_of_getElem? (i := 115) rfl), lw_t1 (List.mem_of_getElem? (i := 116) rfl)⟩
theorem lw_p4 : lw_okq (⟨"ContactNetwork", "lastNode", "(I)I"⟩, 25) := ⟨⟨by decide +kernel, by decide +kernel⟩, lw_t1 (List.mem_of_getElem? (i := 4) rfl), lw_t1 (List.mem_of_getElem? (i := 119) rfl), lw_t1 (List.mem_of_getElem? (i := 120) rfl)⟩
theorem lw_p5 : lw_okq (⟨"ContactNetwork", "findRoute", "(IIII)I"⟩, 25) := ⟨⟨by decide +kernel, by decide +kernel⟩, lw_t1 (List.mem_of_getElem? (i := 4) rfl), lw_t1 (List.mem_of_getElem? (i := 123) rfl), lw_t1 (List.mem_of_getElem? (i := 124) rfl)⟩
theorem lw_p6 : lw_okq (⟨"ContactNetwork", "spread", "(IIII)V"⟩, 25) := ⟨⟨by decide +kernel, by decide +kernel⟩, lw_t1 (List.mem_of_getElem? (i := 4) rfl), lw_t1 (List.mem_of_getElem? (i := 127) rfl), lw_t1 (List.mem_of_getElem? (i := 128) rfl)⟩
theorem lw_p7 : lw_okq (⟨"ContactNetwork", "comingIn", "(III)I"⟩, 25) := ⟨⟨by decide +kernel, by decide +kernel⟩, lw_t1 (List.mem_of_getElem? (i := 4) rfl), lw_t1 (List.mem_of_getElem? (i := 132) rfl), lw_t1 (List.mem_of_getElem? (i := 133) rfl)⟩
theorem lw_p8 : lw_okq (⟨"ContactNetwork", "firstBegin", "(III)I"⟩, 25) := ⟨⟨by decide +kernel, by decide +kernel⟩, lw_t1 (List.mem_of_getElem? (i := 4) rfl), lw_t1 (List.mem_of_getElem? (i := 136) rfl), lw_t1 (List.mem_of_getElem? (i := 137) rfl)⟩
theorem lw_p9 : lw_okq (⟨"ContactNetwork", "nextContact", "(IIIIII)I"⟩, 25) := ⟨⟨by decide +kernel, by decide +kernel⟩, lw_t1 (List.mem_of_getElem? (i := 4) rfl), lw_t1 (List.mem_of_getElem? (i := 140) rfl), lw_t1 (List.mem_of_getElem? (i := 141) rfl)⟩
theorem lw_p10 : lw_okq (⟨"ContactNetwork", "leadsOn", "(IIIIIII)Z"⟩, 25) := ⟨⟨by decide +kernel, by decide +kernel⟩, lw_t1 (List.mem_of_getElem? (i := 4) rfl), lw_t1 (List.mem_of_getElem? (i := 144) rfl), lw_t1 (List.mem_of_getElem? (i := 145) rfl)⟩
theorem lw_p11 : lw_okq (⟨"ContactNetwork", "setBusy", "(IIIZ)V"⟩, 25) := ⟨⟨by decide +kernel, by decide +kernel⟩, lw_t1 (List.mem_of_getElem? (i := 4) rfl), lw_t1 (List.mem_of_getElem? (i := 148) rfl), lw_t1 (List.mem_of_getElem? (i := 149) rfl)⟩
theorem lw_p12 : lw_okq (⟨"ContactNetwork", "isContact", "(I)Z"⟩, 25) := ⟨⟨by decide +kernel, by decide +kernel⟩, lw_t1 (List.mem_of_getElem? (i := 4) rfl), lw_t1 (List.mem_of_getElem? (i := 156) rfl), lw_t1 (List.mem_of_getElem? (i := 157) rfl)⟩
theorem lw_p13 : lw_okq (⟨"ContactNetwork", "openBooking", "(II)I"⟩, 25) := ⟨⟨by decide +kernel, by decide +kernel⟩, lw_t1 (List.mem_of_getElem? (i := 4) rfl), lw_t1 (List.mem_of_getElem? (i := 160) rfl), lw_t1 (List.mem_of_getElem? (i := 161) rfl)⟩
theorem lw_p14 : lw_okq (⟨"ContactNetwork", "loseFrom", "(II)V"⟩, 25) := ⟨⟨by decide +kernel, by decide +kernel⟩, lw_t1 (List.mem_of_getElem? (i := 4) rfl), lw_t1 (List.mem_of_getElem? (i := 164) rfl), lw_t1 (List.mem_of_getElem? (i := 165) rfl)⟩
theorem lw_p15 : lw_okq (⟨"ContactNetwork", "isBundle", "(I)Z"⟩, 25) := ⟨⟨by decide +kernel, by decide +kernel⟩, lw_t1 (List.mem_of_getElem? (i := 4) rfl), lw_t1 (List.mem_of_getElem? (i := 191) rfl), lw_t1 (List.mem_of_getElem? (i := 192) rfl)⟩
def lw_privs_1 : List (MethodName × Nat) := [(⟨"ContactNetwork", "retry", "()V"⟩, 25), (⟨"ContactNetwork", "plan", "(I)V"⟩, 25), (⟨"ContactNetwork", "comesInBy", "(II)I"⟩, 25), (⟨"ContactNetwork", "ticksFor", "(II)I"⟩, 25), (⟨"ContactNetwork", "lastNode", "(I)I"⟩, 25), (⟨"ContactNetwork", "findRoute", "(IIII)I"⟩, 25), (⟨"ContactNetwork", "spread", "(IIII)V"⟩, 25), (⟨"ContactNetwork", "comingIn", "(III)I"⟩, 25), (⟨"ContactNetwork", "firstBegin", "(III)I"⟩, 25), (⟨"ContactNetwork", "nextContact", "(IIIIII)I"⟩, 25), (⟨"ContactNetwork", "leadsOn", "(IIIIIII)Z"⟩, 25), (⟨"ContactNetwork", "setBusy", "(IIIZ)V"⟩, 25), (⟨"ContactNetwork", "isContact", "(I)Z"⟩, 25), (⟨"ContactNetwork", "openBooking", "(II)I"⟩, 25), (⟨"ContactNetwork", "loseFrom", "(II)V"⟩, 25), (⟨"ContactNetwork", "isBundle", "(I)Z"⟩, 25)]
theorem lw_r1 : ∀ q ∈ lw_privs_1, lw_okq q := List.forall_mem_cons.mpr ⟨lw_p0, List.forall_mem_cons.mpr ⟨lw_p1, List.forall_mem_cons.mpr ⟨lw_p2, List.forall_mem_cons.mpr ⟨lw_p3, List.forall_mem_cons.mpr ⟨lw_p4, List.forall_mem_cons.mpr ⟨lw_p5, List.forall_mem_cons.mpr ⟨lw_p6, List.forall_mem_cons.mpr ⟨lw_p7, List.forall_mem_cons.mpr ⟨lw_p8, List.forall_mem_cons.mpr ⟨lw_p9, List.forall_mem_cons.mpr ⟨lw_p10, List.forall_mem_cons.mpr ⟨lw_p11, List.forall_mem_cons.mpr ⟨lw_p12, List.forall_mem_cons.mpr ⟨lw_p13, List.forall_mem_cons.mpr ⟨lw_p14, List.forall_mem_cons.mpr ⟨lw_p15, fun _ h => absurd h List.not_mem_nil⟩⟩⟩⟩⟩⟩⟩⟩⟩⟩⟩⟩⟩⟩⟩⟩
theorem lw_p16 : lw_okq (⟨"ContactNetwork", "isInTime", "(IIII)Z"⟩, 25) := ⟨⟨by decide +kernel, by decide +kernel⟩, lw_t1 (List.mem_of_getElem? (i := 4) rfl), lw_t1 (List.mem_of_getElem? (i := 223) rfl), lw_t1 (List.mem_of_getElem? (i := 224) rfl)⟩
theorem lw_p17 : lw_okq (⟨"ContactNetworkModel", "badEnds", "(I)Z"⟩, 27) := ⟨⟨by decide +kernel, by decide +kernel⟩, lw_t1 (List.mem_of_getElem? (i := 227) rfl), lw_t2 (List.mem_of_getElem? (i := 79) rfl), lw_t2 (List.mem_of_getElem? (i := 80) rfl)⟩
theorem lw_p18 : lw_okq (⟨"ContactNetworkModel", "retry", "()V"⟩, 27) := ⟨⟨by decide +kernel, by decide +kernel⟩, lw_t1 (List.mem_of_getElem? (i := 227) rfl), lw_t2 (List.mem_of_getElem? (i := 83) rfl), lw_t2 (List.mem_of_getElem? (i := 84) rfl)⟩
theorem lw_p19 : lw_okq (⟨"ContactNetworkModel", "plan", "(I)V"⟩, 27) := ⟨⟨by decide +kernel, by decide +kernel⟩, lw_t1 (List.mem_of_getElem? (i := 227) rfl), lw_t2 (List.mem_of_getElem? (i := 87) rfl), lw_t2 (List.mem_of_getElem? (i := 88) rfl)⟩
theorem lw_p20 : lw_okq (⟨"ContactNetworkModel", "lastTime", "(I)I"⟩, 27) := ⟨⟨by decide +kernel, by decide +kernel⟩, lw_t1 (List.mem_of_getElem? (i := 227) rfl), lw_t2 (List.mem_of_getElem? (i := 91) rfl), lw_t2 (List.mem_of_getElem? (i := 92) rfl)⟩
theorem lw_p21 : lw_okq (⟨"ContactNetworkModel", "comesIn", "(III)I"⟩, 27) := ⟨⟨by decide +kernel, by decide +kernel⟩, lw_t1 (List.mem_of_getElem? (i := 227) rfl), lw_t2 (List.mem_of_getElem? (i := 95) rfl), lw_t2 (List.mem_of_getElem? (i := 96) rfl)⟩
theorem lw_p22 : lw_okq (⟨"ContactNetworkModel", "ticks", "(II)I"⟩, 27) := ⟨⟨by decide +kernel, by decide +kernel⟩, lw_t1 (List.mem_of_getElem? (i := 227) rfl), lw_t2 (List.mem_of_getElem? (i := 99) rfl), lw_t2 (List.mem_of_getElem? (i := 100) rfl)⟩
theorem lw_p23 : lw_okq (⟨"ContactNetworkModel", "lastNode", "(I)I"⟩, 27) := ⟨⟨by decide +kernel, by decide +kernel⟩, lw_t1 (List.mem_of_getElem? (i := 227) rfl), lw_t2 (List.mem_of_getElem? (i := 103) rfl), lw_t2 (List.mem_of_getElem? (i := 104) rfl)⟩
theorem lw_p24 : lw_okq (⟨"ContactNetworkModel", "findBest", "(IIII)Z"⟩, 27) := ⟨⟨by decide +kernel, by decide +kernel⟩, lw_t1 (List.mem_of_getElem? (i := 227) rfl), lw_t2 (List.mem_of_getElem? (i := 107) rfl), lw_t2 (List.mem_of_getElem? (i := 108) rfl)⟩
theorem lw_p25 : lw_okq (⟨"ContactNetworkModel", "isTried", "(II)Z"⟩, 27) := ⟨⟨by decide +kernel, by decide +kernel⟩, lw_t1 (List.mem_of_getElem? (i := 227) rfl), lw_t2 (List.mem_of_getElem? (i := 111) rfl), lw_t2 (List.mem_of_getElem? (i := 112) rfl)⟩
theorem lw_p26 : lw_okq (⟨"ContactNetworkModel", "earliest", "(III)I"⟩, 27) := ⟨⟨by decide +kernel, by decide +kernel⟩, lw_t1 (List.mem_of_getElem? (i := 227) rfl), lw_t2 (List.mem_of_getElem? (i := 115) rfl), lw_t2 (List.mem_of_getElem? (i := 116) rfl)⟩
theorem lw_p27 : lw_okq (⟨"ContactNetworkModel", "isFree", "(III)Z"⟩, 27) := ⟨⟨by decide +kernel, by decide +kernel⟩, lw_t1 (List.mem_of_getElem? (i := 227) rfl), lw_t2 (List.mem_of_getElem? (i := 119) rfl), lw_t2 (List.mem_of_getElem? (i := 120) rfl)⟩
theorem lw_p28 : lw_okq (⟨"ContactNetworkModel", "keep", "(II)V"⟩, 27) := ⟨⟨by decide +kernel, by decide +kernel⟩, lw_t1 (List.mem_of_getElem? (i := 227) rfl), lw_t2 (List.mem_of_getElem? (i := 123) rfl), lw_t2 (List.mem_of_getElem? (i := 124) rfl)⟩
theorem lw_p29 : lw_okq (⟨"ContactNetworkModel", "hitAt", "(II)I"⟩, 27) := ⟨⟨by decide +kernel, by decide +kernel⟩, lw_t1 (List.mem_of_getElem? (i := 227) rfl), lw_t2 (List.mem_of_getElem? (i := 131) rfl), lw_t2 (List.mem_of_getElem? (i := 132) rfl)⟩
theorem lw_p30 : lw_okq (⟨"ContactNetworkModel", "badSize", "(I)Z"⟩, 27) := ⟨⟨by decide +kernel, by decide +kernel⟩, lw_t1 (List.mem_of_getElem? (i := 227) rfl), lw_t2 (List.mem_of_getElem? (i := 143) rfl), lw_t2 (List.mem_of_getElem? (i := 144) rfl)⟩
theorem lw_p31 : lw_okq (⟨"ContactNetworkModel", "badBundle", "(I)Z"⟩, 27) := ⟨⟨by decide +kernel, by decide +kernel⟩, lw_t1 (List.mem_of_getElem? (i := 227) rfl), lw_t2 (List.mem_of_getElem? (i := 159) rfl), lw_t2 (List.mem_of_getElem? (i := 160) rfl)⟩
def lw_privs_2 : List (MethodName × Nat) := [(⟨"ContactNetwork", "isInTime", "(IIII)Z"⟩, 25), (⟨"ContactNetworkModel", "badEnds", "(I)Z"⟩, 27), (⟨"ContactNetworkModel", "retry", "()V"⟩, 27), (⟨"ContactNetworkModel", "plan", "(I)V"⟩, 27), (⟨"ContactNetworkModel", "lastTime", "(I)I"⟩, 27), (⟨"ContactNetworkModel", "comesIn", "(III)I"⟩, 27), (⟨"ContactNetworkModel", "ticks", "(II)I"⟩, 27), (⟨"ContactNetworkModel", "lastNode", "(I)I"⟩, 27), (⟨"ContactNetworkModel", "findBest", "(IIII)Z"⟩, 27), (⟨"ContactNetworkModel", "isTried", "(II)Z"⟩, 27), (⟨"ContactNetworkModel", "earliest", "(III)I"⟩, 27), (⟨"ContactNetworkModel", "isFree", "(III)Z"⟩, 27), (⟨"ContactNetworkModel", "keep", "(II)V"⟩, 27), (⟨"ContactNetworkModel", "hitAt", "(II)I"⟩, 27), (⟨"ContactNetworkModel", "badSize", "(I)Z"⟩, 27), (⟨"ContactNetworkModel", "badBundle", "(I)Z"⟩, 27)]
theorem lw_r2 : ∀ q ∈ lw_privs_2, lw_okq q := List.forall_mem_cons.mpr ⟨lw_p16, List.forall_mem_cons.mpr ⟨lw_p17, List.forall_mem_cons.mpr ⟨lw_p18, List.forall_mem_cons.mpr ⟨lw_p19, List.forall_mem_cons.mpr ⟨lw_p20, List.forall_mem_cons.mpr ⟨lw_p21, List.forall_mem_cons.mpr ⟨lw_p22, List.forall_mem_cons.mpr ⟨lw_p23, List.forall_mem_cons.mpr ⟨lw_p24, List.forall_mem_cons.mpr ⟨lw_p25, List.forall_mem_cons.mpr ⟨lw_p26, List.forall_mem_cons.mpr ⟨lw_p27, List.forall_mem_cons.mpr ⟨lw_p28, List.forall_mem_cons.mpr ⟨lw_p29, List.forall_mem_cons.mpr ⟨lw_p30, List.forall_mem_cons.mpr ⟨lw_p31, fun _ h => absurd h List.not_mem_nil⟩⟩⟩⟩⟩⟩⟩⟩⟩⟩⟩⟩⟩⟩⟩⟩
def lw_privs : List (MethodName × Nat) := lw_privs_1 ++ (lw_privs_2)
def lw_tbl : List Cond := k2_sels lw_privs ++ tables_1
theorem lw_privs_ok : ∀ q ∈ lw_privs, lw_okq q := by
  show ∀ q ∈ lw_privs_1 ++ (lw_privs_2), lw_okq q
  exact List.forall_mem_append.mpr ⟨lw_r1, lw_r2⟩
-- ===== ONE list of words for every method: the tables' words that hold all through a run =====
def lw_all : List Cond := lw_tbl.filter goodWord
/-- a word of the tables by its place: claim/WORDS.tsv -/
theorem lw_w {w : Cond} (i : Nat) (h : lw_tbl[i]? = some w) (g : goodWord w = true) : w ∈ lw_all := List.mem_filter.mpr ⟨List.mem_of_getElem? h, g⟩
theorem lw_all_tbl {w : Cond} (h : w ∈ lw_all) : w ∈ lw_tbl := (List.mem_filter.mp h).1
theorem lw_self : GoodIn lw_all lw_all := fun w h => ⟨h, good_of_word (List.mem_filter.mp h).2⟩
/-- a class's field words, by their places -/
theorem lw_in (ws : List Cond) (ps : List Nat) (hp : ws = ps.filterMap (fun i => lw_tbl[i]?)) (hg : ws.all goodWord = true) : ∀ w ∈ ws, w ∈ lw_all := by
  intro w h
  have h1 := List.all_eq_true.mp hg w h
  rw [hp] at h
  obtain ⟨i, -, hi⟩ := List.mem_filterMap.mp h
  exact lw_w i hi h1
/-- the words of a contract for the method y with code b, L locals, answer r -/
abbrev ws_ (y : MethodName) (b : ByteArray) (L : Nat) (r : Option FieldType) : List Cond := Cond.code y b L r :: lw_all
theorem lw_meth {y : MethodName} {b : ByteArray} {L : Nat} {r : Option FieldType} (h : Cond.code y b L r ∈ lw_all) : GoodIn lw_all (ws_ y b L r) := by
  intro w hw
  rcases List.mem_cons.mp hw with e | e
  · rw [e]
    exact lw_self _ h
  · exact lw_self _ e
theorem lw_app {a c : List Cond} (ha : ∀ w ∈ a, w ∈ lw_all) (hc : GoodIn lw_all c) : GoodIn lw_all (a ++ c) := by
  intro w hw
  rcases List.mem_append.mp hw with e | e
  · exact lw_self w (ha w e)
  · exact hc w e
/-- what a call through an object asks: cwV n hts (lw_V ..) -/
theorem lw_V {own : String} {idx : Nat} {C : String} {y : MethodName} {b : ByteArray} {L : Nat} {r : Option FieldType} (h1 : Cond.methodLink own idx y ∈ lw_all) (h2 : Cond.instanceMethod y ∈ lw_all) (h3 : Cond.selects C y y ∈ lw_all) (h4 : Cond.initialized C ∈ lw_all) (h5 : Cond.code y b L r ∈ lw_all) : GoodIn lw_all (wsV own idx C y (ws_ y b L r)) := by
  refine lw_app ?_ (lw_meth h5)
  intro w hw
  simp only [List.mem_cons, List.not_mem_nil, or_false] at hw
  rcases hw with e | e | e | e
  · rw [e]; exact h1
  · rw [e]; exact h2
  · rw [e]; exact h3
  · rw [e]; exact h4
/-- what a static call asks: va_cwS n hts (lw_S ..) -/
theorem lw_S {own : String} {idx : Nat} {y : MethodName} {b : ByteArray} {L : Nat} {r : Option FieldType} (h1 : Cond.methodLink own idx y ∈ lw_all) (h2 : Cond.static y ∈ lw_all) (h3 : Cond.initialized y.cls ∈ lw_all) (h4 : Cond.code y b L r ∈ lw_all) : GoodIn lw_all (va_wsS own idx y (ws_ y b L r)) := by
  refine lw_app ?_ (lw_meth h4)
  intro w hw
  simp only [List.mem_cons, List.not_mem_nil, or_false] at hw
  rcases hw with e | e | e
  · rw [e]; exact h1
  · rw [e]; exact h2
  · rw [e]; exact h3
/-- the words of a contract for a method WITH HANDLERS (hh: its table) -/
abbrev wsW_ (y : MethodName) (b : ByteArray) (L : Nat) (r : Option FieldType) (hh : List (Nat × Nat × Nat × Nat)) : List Cond := Cond.codeWith y b L r hh :: lw_all
theorem lw_methW {y : MethodName} {b : ByteArray} {L : Nat} {r : Option FieldType} {hh : List (Nat × Nat × Nat × Nat)} (h : Cond.codeWith y b L r hh ∈ lw_all) : GoodIn lw_all (wsW_ y b L r hh) := by
  intro w hw
  rcases List.mem_cons.mp hw with e | e
  · rw [e]
    exact lw_self _ h
  · exact lw_self _ e
/-- any list of words by their places (lw_in), good -/
theorem lw_good {ws : List Cond} (h : ∀ w ∈ ws, w ∈ lw_all) : GoodIn lw_all ws := fun w hw => lw_self w (h w hw)
/-- what a call of a method with handlers asks: vx_cwVW n hts (lw_VW ..), vx_cwSW n hts (lw_SW ..) -/
theorem lw_VW {own : String} {idx : Nat} {C : String} {y : MethodName} {b : ByteArray} {L : Nat} {r : Option FieldType} {hh : List (Nat × Nat × Nat × Nat)} (h1 : Cond.methodLink own idx y ∈ lw_all) (h2 : Cond.instanceMethod y ∈ lw_all) (h3 : Cond.selects C y y ∈ lw_all) (h4 : Cond.initialized C ∈ lw_all) (h5 : Cond.codeWith y b L r hh ∈ lw_all) : GoodIn lw_all (wsV own idx C y (wsW_ y b L r hh)) := by
  refine lw_app ?_ (lw_methW h5)
  intro w hw
  simp only [List.mem_cons, List.not_mem_nil, or_false] at hw
  rcases hw with e | e | e | e
  · rw [e]; exact h1
  · rw [e]; exact h2
  · rw [e]; exact h3
  · rw [e]; exact h4
theorem lw_SW {own : String} {idx : Nat} {y : MethodName} {b : ByteArray} {L : Nat} {r : Option FieldType} {hh : List (Nat × Nat × Nat × Nat)} (h1 : Cond.methodLink own idx y ∈ lw_all) (h2 : Cond.static y ∈ lw_all) (h3 : Cond.initialized y.cls ∈ lw_all) (h4 : Cond.codeWith y b L r hh ∈ lw_all) : GoodIn lw_all (va_wsS own idx y (wsW_ y b L r hh)) := by
  refine lw_app ?_ (lw_methW h4)
  intro w hw
  simp only [List.mem_cons, List.not_mem_nil, or_false] at hw
  rcases hw with e | e | e
  · rw [e]; exact h1
  · rw [e]; exact h2
  · rw [e]; exact h3
/-- a word by its place in its run of the tables -/
theorem lw_at {r : List Cond} (hr : ∀ w ∈ r, w ∈ lw_tbl) {w : Cond} (i : Nat) (h : r[i]? = some w) : w ∈ lw_tbl := hr w (List.mem_of_getElem? h)
theorem lw_g {w : Cond} (h : w ∈ lw_tbl) (g : goodWord w = true) : w ∈ lw_all := List.mem_filter.mpr ⟨h, g⟩
theorem lw_ms : ∀ w ∈ k2_sels lw_privs, w ∈ lw_tbl := fun w h => show w ∈ k2_sels lw_privs ++ tables_1 from List.mem_append_left _ h
theorem lw_m1 : ∀ w ∈ tables_1_1, w ∈ lw_tbl := fun w h => show w ∈ k2_sels lw_privs ++ tables_1 from List.mem_append_right (k2_sels lw_privs) (show w ∈ tables_1 from List.mem_append_left _ h)
theorem lw_m2 : ∀ w ∈ tables_1_2, w ∈ lw_tbl := fun w h => show w ∈ k2_sels lw_privs ++ tables_1 from List.mem_append_right (k2_sels lw_privs) (show w ∈ tables_1 from List.mem_append_right _ h)
theorem qs0 : (Cond.selects "ContactNetwork" ⟨"ContactNetwork", "retry", "()V"⟩ ⟨"ContactNetwork", "retry", "()V"⟩) ∈ lw_all := lw_g (lw_at lw_ms 0 rfl) rfl
theorem qs1 : (Cond.selects "ContactNetwork" ⟨"ContactNetwork", "plan", "(I)V"⟩ ⟨"ContactNetwork", "plan", "(I)V"⟩) ∈ lw_all := lw_g (lw_at lw_ms 1 rfl) rfl
theorem qs2 : (Cond.selects "ContactNetwork" ⟨"ContactNetwork", "comesInBy", "(II)I"⟩ ⟨"ContactNetwork", "comesInBy", "(II)I"⟩) ∈ lw_all := lw_g (lw_at lw_ms 2 rfl) rfl
theorem qs3 : (Cond.selects "ContactNetwork" ⟨"ContactNetwork", "ticksFor", "(II)I"⟩ ⟨"ContactNetwork", "ticksFor", "(II)I"⟩) ∈ lw_all := lw_g (lw_at lw_ms 3 rfl) rfl
theorem qs4 : (Cond.selects "ContactNetwork" ⟨"ContactNetwork", "lastNode", "(I)I"⟩ ⟨"ContactNetwork", "lastNode", "(I)I"⟩) ∈ lw_all := lw_g (lw_at lw_ms 4 rfl) rfl
theorem qs5 : (Cond.selects "ContactNetwork" ⟨"ContactNetwork", "findRoute", "(IIII)I"⟩ ⟨"ContactNetwork", "findRoute", "(IIII)I"⟩) ∈ lw_all := lw_g (lw_at lw_ms 5 rfl) rfl
theorem qs6 : (Cond.selects "ContactNetwork" ⟨"ContactNetwork", "spread", "(IIII)V"⟩ ⟨"ContactNetwork", "spread", "(IIII)V"⟩) ∈ lw_all := lw_g (lw_at lw_ms 6 rfl) rfl
theorem qs7 : (Cond.selects "ContactNetwork" ⟨"ContactNetwork", "comingIn", "(III)I"⟩ ⟨"ContactNetwork", "comingIn", "(III)I"⟩) ∈ lw_all := lw_g (lw_at lw_ms 7 rfl) rfl
theorem qs8 : (Cond.selects "ContactNetwork" ⟨"ContactNetwork", "firstBegin", "(III)I"⟩ ⟨"ContactNetwork", "firstBegin", "(III)I"⟩) ∈ lw_all := lw_g (lw_at lw_ms 8 rfl) rfl
theorem qs9 : (Cond.selects "ContactNetwork" ⟨"ContactNetwork", "nextContact", "(IIIIII)I"⟩ ⟨"ContactNetwork", "nextContact", "(IIIIII)I"⟩) ∈ lw_all := lw_g (lw_at lw_ms 9 rfl) rfl
theorem qs10 : (Cond.selects "ContactNetwork" ⟨"ContactNetwork", "leadsOn", "(IIIIIII)Z"⟩ ⟨"ContactNetwork", "leadsOn", "(IIIIIII)Z"⟩) ∈ lw_all := lw_g (lw_at lw_ms 10 rfl) rfl
theorem qs11 : (Cond.selects "ContactNetwork" ⟨"ContactNetwork", "setBusy", "(IIIZ)V"⟩ ⟨"ContactNetwork", "setBusy", "(IIIZ)V"⟩) ∈ lw_all := lw_g (lw_at lw_ms 11 rfl) rfl
theorem qs12 : (Cond.selects "ContactNetwork" ⟨"ContactNetwork", "isContact", "(I)Z"⟩ ⟨"ContactNetwork", "isContact", "(I)Z"⟩) ∈ lw_all := lw_g (lw_at lw_ms 12 rfl) rfl
theorem qs13 : (Cond.selects "ContactNetwork" ⟨"ContactNetwork", "openBooking", "(II)I"⟩ ⟨"ContactNetwork", "openBooking", "(II)I"⟩) ∈ lw_all := lw_g (lw_at lw_ms 13 rfl) rfl
theorem qs14 : (Cond.selects "ContactNetwork" ⟨"ContactNetwork", "loseFrom", "(II)V"⟩ ⟨"ContactNetwork", "loseFrom", "(II)V"⟩) ∈ lw_all := lw_g (lw_at lw_ms 14 rfl) rfl
theorem qs15 : (Cond.selects "ContactNetwork" ⟨"ContactNetwork", "isBundle", "(I)Z"⟩ ⟨"ContactNetwork", "isBundle", "(I)Z"⟩) ∈ lw_all := lw_g (lw_at lw_ms 15 rfl) rfl
theorem qs16 : (Cond.selects "ContactNetwork" ⟨"ContactNetwork", "isInTime", "(IIII)Z"⟩ ⟨"ContactNetwork", "isInTime", "(IIII)Z"⟩) ∈ lw_all := lw_g (lw_at lw_ms 16 rfl) rfl
theorem qs17 : (Cond.selects "ContactNetworkModel" ⟨"ContactNetworkModel", "badEnds", "(I)Z"⟩ ⟨"ContactNetworkModel", "badEnds", "(I)Z"⟩) ∈ lw_all := lw_g (lw_at lw_ms 17 rfl) rfl
theorem qs18 : (Cond.selects "ContactNetworkModel" ⟨"ContactNetworkModel", "retry", "()V"⟩ ⟨"ContactNetworkModel", "retry", "()V"⟩) ∈ lw_all := lw_g (lw_at lw_ms 18 rfl) rfl
theorem qs19 : (Cond.selects "ContactNetworkModel" ⟨"ContactNetworkModel", "plan", "(I)V"⟩ ⟨"ContactNetworkModel", "plan", "(I)V"⟩) ∈ lw_all := lw_g (lw_at lw_ms 19 rfl) rfl
theorem qs20 : (Cond.selects "ContactNetworkModel" ⟨"ContactNetworkModel", "lastTime", "(I)I"⟩ ⟨"ContactNetworkModel", "lastTime", "(I)I"⟩) ∈ lw_all := lw_g (lw_at lw_ms 20 rfl) rfl
theorem qs21 : (Cond.selects "ContactNetworkModel" ⟨"ContactNetworkModel", "comesIn", "(III)I"⟩ ⟨"ContactNetworkModel", "comesIn", "(III)I"⟩) ∈ lw_all := lw_g (lw_at lw_ms 21 rfl) rfl
theorem qs22 : (Cond.selects "ContactNetworkModel" ⟨"ContactNetworkModel", "ticks", "(II)I"⟩ ⟨"ContactNetworkModel", "ticks", "(II)I"⟩) ∈ lw_all := lw_g (lw_at lw_ms 22 rfl) rfl
theorem qs23 : (Cond.selects "ContactNetworkModel" ⟨"ContactNetworkModel", "lastNode", "(I)I"⟩ ⟨"ContactNetworkModel", "lastNode", "(I)I"⟩) ∈ lw_all := lw_g (lw_at lw_ms 23 rfl) rfl
theorem qs24 : (Cond.selects "ContactNetworkModel" ⟨"ContactNetworkModel", "findBest", "(IIII)Z"⟩ ⟨"ContactNetworkModel", "findBest", "(IIII)Z"⟩) ∈ lw_all := lw_g (lw_at lw_ms 24 rfl) rfl
theorem qs25 : (Cond.selects "ContactNetworkModel" ⟨"ContactNetworkModel", "isTried", "(II)Z"⟩ ⟨"ContactNetworkModel", "isTried", "(II)Z"⟩) ∈ lw_all := lw_g (lw_at lw_ms 25 rfl) rfl
theorem qs26 : (Cond.selects "ContactNetworkModel" ⟨"ContactNetworkModel", "earliest", "(III)I"⟩ ⟨"ContactNetworkModel", "earliest", "(III)I"⟩) ∈ lw_all := lw_g (lw_at lw_ms 26 rfl) rfl
theorem qs27 : (Cond.selects "ContactNetworkModel" ⟨"ContactNetworkModel", "isFree", "(III)Z"⟩ ⟨"ContactNetworkModel", "isFree", "(III)Z"⟩) ∈ lw_all := lw_g (lw_at lw_ms 27 rfl) rfl
theorem qs28 : (Cond.selects "ContactNetworkModel" ⟨"ContactNetworkModel", "keep", "(II)V"⟩ ⟨"ContactNetworkModel", "keep", "(II)V"⟩) ∈ lw_all := lw_g (lw_at lw_ms 28 rfl) rfl
theorem qs29 : (Cond.selects "ContactNetworkModel" ⟨"ContactNetworkModel", "hitAt", "(II)I"⟩ ⟨"ContactNetworkModel", "hitAt", "(II)I"⟩) ∈ lw_all := lw_g (lw_at lw_ms 29 rfl) rfl
theorem qs30 : (Cond.selects "ContactNetworkModel" ⟨"ContactNetworkModel", "badSize", "(I)Z"⟩ ⟨"ContactNetworkModel", "badSize", "(I)Z"⟩) ∈ lw_all := lw_g (lw_at lw_ms 30 rfl) rfl
theorem qs31 : (Cond.selects "ContactNetworkModel" ⟨"ContactNetworkModel", "badBundle", "(I)Z"⟩ ⟨"ContactNetworkModel", "badBundle", "(I)Z"⟩) ∈ lw_all := lw_g (lw_at lw_ms 31 rfl) rfl
end
section
/-! java/lang/Object -/
set_option maxRecDepth 100000
def RJ0 : String := "java/lang/Object"
abbrev cJ0_init : ByteArray := object_method_1_code
def yJ0_init : MethodName := ⟨RJ0, "<init>", "()V"⟩
theorem q41 : (Jvm.Cond.instanceMethod ({ cls := "java/lang/Object", name := "<init>", desc := "()V" } : Jvm.MethodName)) ∈ lw_all := lw_g (lw_at lw_m1 9 rfl) rfl
theorem q42 : (Jvm.Cond.code ({ cls := "java/lang/Object", name := "<init>", desc := "()V" } : Jvm.MethodName) object_method_1_code (1 : Nat) (Option.none : Option Jvm.ClassFile.FieldType)) ∈ lw_all := lw_g (lw_at lw_m1 10 rfl) rfl
theorem q119 : (Jvm.Cond.arrayClass Jvm.ClassFile.FieldType.boolean) ∈ lw_all := lw_g (lw_at lw_m1 87 rfl) rfl
set_option maxRecDepth 100000
theorem q120 : (Jvm.Cond.arrayClass Jvm.ClassFile.FieldType.int) ∈ lw_all := lw_g (lw_at lw_m1 88 rfl) rfl
theorem q32 : (Jvm.Cond.initialized "ContactNetworkLaw") ∈ lw_all := lw_g (lw_at lw_m1 0 rfl) rfl
set_option maxRecDepth 100000
theorem q35 : (Jvm.Cond.classLink "ContactNetworkLaw" (7 : Nat) "ContactNetwork") ∈ lw_all := lw_g (lw_at lw_m1 3 rfl) rfl
theorem q37 : (Jvm.Cond.methodLink "ContactNetworkLaw" (9 : Nat) ({ cls := "ContactNetwork", name := "<init>", desc := "()V" } : Jvm.MethodName)) ∈ lw_all := lw_g (lw_at lw_m1 5 rfl) rfl
theorem q121 : (Jvm.Cond.methodLink "ContactNetworkLaw" (13 : Nat) ({ cls := "ContactNetwork", name := "contact", desc := "(III)I" } : Jvm.MethodName)) ∈ lw_all := lw_g (lw_at lw_m1 89 rfl) rfl
theorem q183 : (Jvm.Cond.methodLink "ContactNetworkLaw" (18 : Nat) ({ cls := "ContactNetwork", name := "cancel", desc := "(I)I" } : Jvm.MethodName)) ∈ lw_all := lw_g (lw_at lw_m1 151 rfl) rfl
theorem q199 : (Jvm.Cond.methodLink "ContactNetworkLaw" (23 : Nat) ({ cls := "ContactNetwork", name := "booked", desc := "(I)I" } : Jvm.MethodName)) ∈ lw_all := lw_g (lw_at lw_m1 167 rfl) rfl
theorem q203 : (Jvm.Cond.methodLink "ContactNetworkLaw" (27 : Nat) ({ cls := "ContactNetwork", name := "send", desc := "(III)I" } : Jvm.MethodName)) ∈ lw_all := lw_g (lw_at lw_m1 171 rfl) rfl
theorem q210 : (Jvm.Cond.methodLink "ContactNetworkLaw" (31 : Nat) ({ cls := "ContactNetwork", name := "pass", desc := "(I)I" } : Jvm.MethodName)) ∈ lw_all := lw_g (lw_at lw_m1 178 rfl) rfl
theorem q214 : (Jvm.Cond.methodLink "ContactNetworkLaw" (35 : Nat) ({ cls := "ContactNetwork", name := "time", desc := "()I" } : Jvm.MethodName)) ∈ lw_all := lw_g (lw_at lw_m1 182 rfl) rfl
theorem q218 : (Jvm.Cond.methodLink "ContactNetworkLaw" (40 : Nat) ({ cls := "ContactNetwork", name := "state", desc := "(I)I" } : Jvm.MethodName)) ∈ lw_all := lw_g (lw_at lw_m1 186 rfl) rfl
theorem q226 : (Jvm.Cond.methodLink "ContactNetworkLaw" (44 : Nat) ({ cls := "ContactNetwork", name := "arrival", desc := "(I)I" } : Jvm.MethodName)) ∈ lw_all := lw_g (lw_at lw_m1 194 rfl) rfl
theorem q230 : (Jvm.Cond.methodLink "ContactNetworkLaw" (48 : Nat) ({ cls := "ContactNetwork", name := "hops", desc := "(I)I" } : Jvm.MethodName)) ∈ lw_all := lw_g (lw_at lw_m1 198 rfl) rfl
theorem q234 : (Jvm.Cond.methodLink "ContactNetworkLaw" (52 : Nat) ({ cls := "ContactNetwork", name := "hop", desc := "(II)I" } : Jvm.MethodName)) ∈ lw_all := lw_g (lw_at lw_m1 202 rfl) rfl
theorem q238 : (Jvm.Cond.methodLink "ContactNetworkLaw" (57 : Nat) ({ cls := "ContactNetwork", name := "place", desc := "(I)I" } : Jvm.MethodName)) ∈ lw_all := lw_g (lw_at lw_m1 206 rfl) rfl
theorem q242 : (Jvm.Cond.methodLink "ContactNetworkLaw" (61 : Nat) ({ cls := "ContactNetwork", name := "quote", desc := "(II)I" } : Jvm.MethodName)) ∈ lw_all := lw_g (lw_at lw_m1 210 rfl) rfl
theorem q246 : (Jvm.Cond.methodLink "ContactNetworkLaw" (65 : Nat) ({ cls := "ContactNetwork", name := "reach", desc := "(III)I" } : Jvm.MethodName)) ∈ lw_all := lw_g (lw_at lw_m1 214 rfl) rfl
theorem q250 : (Jvm.Cond.methodLink "ContactNetworkLaw" (69 : Nat) ({ cls := "ContactNetwork", name := "latest", desc := "(III)I" } : Jvm.MethodName)) ∈ lw_all := lw_g (lw_at lw_m1 218 rfl) rfl
theorem q258 : (Jvm.Cond.classLink "ContactNetworkLaw" (10 : Nat) "ContactNetworkModel") ∈ lw_all := lw_g (lw_at lw_m1 226 rfl) rfl
theorem q260 : (Jvm.Cond.methodLink "ContactNetworkLaw" (12 : Nat) ({ cls := "ContactNetworkModel", name := "<init>", desc := "()V" } : Jvm.MethodName)) ∈ lw_all := lw_g (lw_at lw_m1 228 rfl) rfl
theorem q346 : (Jvm.Cond.methodLink "ContactNetworkLaw" (17 : Nat) ({ cls := "ContactNetworkModel", name := "contact", desc := "(III)I" } : Jvm.MethodName)) ∈ lw_all := lw_g (lw_at lw_m2 74 rfl) rfl
theorem q398 : (Jvm.Cond.methodLink "ContactNetworkLaw" (22 : Nat) ({ cls := "ContactNetworkModel", name := "cancel", desc := "(I)I" } : Jvm.MethodName)) ∈ lw_all := lw_g (lw_at lw_m2 126 rfl) rfl
theorem q406 : (Jvm.Cond.methodLink "ContactNetworkLaw" (26 : Nat) ({ cls := "ContactNetworkModel", name := "booked", desc := "(I)I" } : Jvm.MethodName)) ∈ lw_all := lw_g (lw_at lw_m2 134 rfl) rfl
theorem q410 : (Jvm.Cond.methodLink "ContactNetworkLaw" (30 : Nat) ({ cls := "ContactNetworkModel", name := "send", desc := "(III)I" } : Jvm.MethodName)) ∈ lw_all := lw_g (lw_at lw_m2 138 rfl) rfl
theorem q418 : (Jvm.Cond.methodLink "ContactNetworkLaw" (34 : Nat) ({ cls := "ContactNetworkModel", name := "pass", desc := "(I)I" } : Jvm.MethodName)) ∈ lw_all := lw_g (lw_at lw_m2 146 rfl) rfl
theorem q422 : (Jvm.Cond.methodLink "ContactNetworkLaw" (39 : Nat) ({ cls := "ContactNetworkModel", name := "time", desc := "()I" } : Jvm.MethodName)) ∈ lw_all := lw_g (lw_at lw_m2 150 rfl) rfl
theorem q426 : (Jvm.Cond.methodLink "ContactNetworkLaw" (43 : Nat) ({ cls := "ContactNetworkModel", name := "state", desc := "(I)I" } : Jvm.MethodName)) ∈ lw_all := lw_g (lw_at lw_m2 154 rfl) rfl
theorem q434 : (Jvm.Cond.methodLink "ContactNetworkLaw" (47 : Nat) ({ cls := "ContactNetworkModel", name := "arrival", desc := "(I)I" } : Jvm.MethodName)) ∈ lw_all := lw_g (lw_at lw_m2 162 rfl) rfl
theorem q438 : (Jvm.Cond.methodLink "ContactNetworkLaw" (51 : Nat) ({ cls := "ContactNetworkModel", name := "hops", desc := "(I)I" } : Jvm.MethodName)) ∈ lw_all := lw_g (lw_at lw_m2 166 rfl) rfl
theorem q442 : (Jvm.Cond.methodLink "ContactNetworkLaw" (56 : Nat) ({ cls := "ContactNetworkModel", name := "hop", desc := "(II)I" } : Jvm.MethodName)) ∈ lw_all := lw_g (lw_at lw_m2 170 rfl) rfl
theorem q446 : (Jvm.Cond.methodLink "ContactNetworkLaw" (60 : Nat) ({ cls := "ContactNetworkModel", name := "place", desc := "(I)I" } : Jvm.MethodName)) ∈ lw_all := lw_g (lw_at lw_m2 174 rfl) rfl
theorem q450 : (Jvm.Cond.methodLink "ContactNetworkLaw" (64 : Nat) ({ cls := "ContactNetworkModel", name := "quote", desc := "(II)I" } : Jvm.MethodName)) ∈ lw_all := lw_g (lw_at lw_m2 178 rfl) rfl
theorem q454 : (Jvm.Cond.methodLink "ContactNetworkLaw" (68 : Nat) ({ cls := "ContactNetworkModel", name := "reach", desc := "(III)I" } : Jvm.MethodName)) ∈ lw_all := lw_g (lw_at lw_m2 182 rfl) rfl
theorem q458 : (Jvm.Cond.methodLink "ContactNetworkLaw" (72 : Nat) ({ cls := "ContactNetworkModel", name := "latest", desc := "(III)I" } : Jvm.MethodName)) ∈ lw_all := lw_g (lw_at lw_m2 186 rfl) rfl
/-! ContactNetwork -/
set_option maxRecDepth 100000
def RX0 : String := "ContactNetwork"
def TX0 : u_T := fun k => match k with
  | 0 => ("ContactNetwork", "contacts", "I", false)
  | 1 => ("ContactNetwork", "isCancelled", "[Z", true)
  | 2 => ("ContactNetwork", "from", "[I", true)
  | 3 => ("ContactNetwork", "to", "[I", true)
  | 4 => ("ContactNetwork", "start", "[I", true)
  | 5 => ("ContactNetwork", "end", "[I", true)
  | 6 => ("ContactNetwork", "rate", "[I", true)
  | 7 => ("ContactNetwork", "delay", "[I", true)
  | 8 => ("ContactNetwork", "busy", "[Z", true)
  | 9 => ("ContactNetwork", "bundles", "I", false)
  | 10 => ("ContactNetwork", "source", "[I", true)
  | 11 => ("ContactNetwork", "destination", "[I", true)
  | 12 => ("ContactNetwork", "sizes", "[I", true)
  | 13 => ("ContactNetwork", "limits", "[I", true)
  | 14 => ("ContactNetwork", "isRouted", "[Z", true)
  | 15 => ("ContactNetwork", "isHit", "[Z", true)
  | 16 => ("ContactNetwork", "hopCount", "[I", true)
  | 17 => ("ContactNetwork", "hopContact", "[I", true)
  | 18 => ("ContactNetwork", "hopBegin", "[I", true)
  | 19 => ("ContactNetwork", "now", "I", false)
  | 20 => ("ContactNetwork", "routeCount", "I", false)
  | 21 => ("ContactNetwork", "routeContact", "[I", true)
  | 22 => ("ContactNetwork", "routeBegin", "[I", true)
  | 23 => ("ContactNetwork", "early", "[I", true)
  | _ => ("ContactNetwork", "earlier", "[I", true)
def tyX0 : Nat → FieldType := fun k => match k with
  | 0 => .int
  | 1 => .array .boolean
  | 2 => .array .int
  | 3 => .array .int
  | 4 => .array .int
  | 5 => .array .int
  | 6 => .array .int
  | 7 => .array .int
  | 8 => .array .boolean
  | 9 => .int
  | 10 => .array .int
  | 11 => .array .int
  | 12 => .array .int
  | 13 => .array .int
  | 14 => .array .boolean
  | 15 => .array .boolean
  | 16 => .array .int
  | 17 => .array .int
  | 18 => .array .int
  | 19 => .int
  | 20 => .int
  | 21 => .array .int
  | 22 => .array .int
  | 23 => .array .int
  | _ => .array .int
abbrev wsX00 : List Cond := u_ws RX0 TX0 25
set_option maxRecDepth 100000 in
theorem nmX0 : ∀ a, a < 25 → ∀ b, b < 25 → a ≠ b → (TX0 a).2.1 ≠ (TX0 b).2.1 := by decide +kernel
set_option maxRecDepth 100000 in
theorem tyX0_ok : ∀ k, k < 25 → parseFieldDescriptor (TX0 k).2.2.1 = some (tyX0 k) := by decide +kernel
abbrev cX0_init : ByteArray := prog_1_method_1_code
def yX0_init : MethodName := ⟨RX0, "<init>", "()V"⟩
abbrev cX0_contact : ByteArray := prog_1_method_18_code
def yX0_contact : MethodName := ⟨RX0, "contact", "(III)I"⟩
abbrev cX0_areEnds : ByteArray := prog_1_method_14_code
def yX0_areEnds : MethodName := ⟨RX0, "areEnds", "(I)Z"⟩
abbrev cX0_isSpan : ByteArray := prog_1_method_15_code
def yX0_isSpan : MethodName := ⟨RX0, "isSpan", "(I)Z"⟩
abbrev cX0_areTerms : ByteArray := prog_1_method_16_code
def yX0_areTerms : MethodName := ⟨RX0, "areTerms", "(I)Z"⟩
abbrev cX0_retry : ByteArray := prog_1_method_13_code
def yX0_retry : MethodName := ⟨RX0, "retry", "()V"⟩
abbrev cX0_plan : ByteArray := prog_1_method_12_code
def yX0_plan : MethodName := ⟨RX0, "plan", "(I)V"⟩
abbrev cX0_comesInBy : ByteArray := prog_1_method_10_code
def yX0_comesInBy : MethodName := ⟨RX0, "comesInBy", "(II)I"⟩
abbrev cX0_ticksFor : ByteArray := prog_1_method_2_code
def yX0_ticksFor : MethodName := ⟨RX0, "ticksFor", "(II)I"⟩
abbrev cX0_lastNode : ByteArray := prog_1_method_11_code
def yX0_lastNode : MethodName := ⟨RX0, "lastNode", "(I)I"⟩
abbrev cX0_findRoute : ByteArray := prog_1_method_6_code
def yX0_findRoute : MethodName := ⟨RX0, "findRoute", "(IIII)I"⟩
abbrev cX0_spread : ByteArray := prog_1_method_5_code
def yX0_spread : MethodName := ⟨RX0, "spread", "(IIII)V"⟩
abbrev cX0_comingIn : ByteArray := prog_1_method_4_code
def yX0_comingIn : MethodName := ⟨RX0, "comingIn", "(III)I"⟩
abbrev cX0_firstBegin : ByteArray := prog_1_method_3_code
def yX0_firstBegin : MethodName := ⟨RX0, "firstBegin", "(III)I"⟩
abbrev cX0_nextContact : ByteArray := prog_1_method_7_code
def yX0_nextContact : MethodName := ⟨RX0, "nextContact", "(IIIIII)I"⟩
abbrev cX0_leadsOn : ByteArray := prog_1_method_8_code
def yX0_leadsOn : MethodName := ⟨RX0, "leadsOn", "(IIIIIII)Z"⟩
abbrev cX0_setBusy : ByteArray := prog_1_method_9_code
def yX0_setBusy : MethodName := ⟨RX0, "setBusy", "(IIIZ)V"⟩
abbrev cX0_cancel : ByteArray := prog_1_method_21_code
def yX0_cancel : MethodName := ⟨RX0, "cancel", "(I)I"⟩
abbrev cX0_isContact : ByteArray := prog_1_method_17_code
def yX0_isContact : MethodName := ⟨RX0, "isContact", "(I)Z"⟩
abbrev cX0_openBooking : ByteArray := prog_1_method_19_code
def yX0_openBooking : MethodName := ⟨RX0, "openBooking", "(II)I"⟩
abbrev cX0_loseFrom : ByteArray := prog_1_method_20_code
def yX0_loseFrom : MethodName := ⟨RX0, "loseFrom", "(II)V"⟩
abbrev cX0_booked : ByteArray := prog_1_method_22_code
def yX0_booked : MethodName := ⟨RX0, "booked", "(I)I"⟩
abbrev cX0_send : ByteArray := prog_1_method_25_code
def yX0_send : MethodName := ⟨RX0, "send", "(III)I"⟩
abbrev cX0_isSize : ByteArray := prog_1_method_23_code
def yX0_isSize : MethodName := ⟨RX0, "isSize", "(I)Z"⟩
abbrev cX0_pass : ByteArray := prog_1_method_26_code
def yX0_pass : MethodName := ⟨RX0, "pass", "(I)I"⟩
abbrev cX0_time : ByteArray := prog_1_method_27_code
def yX0_time : MethodName := ⟨RX0, "time", "()I"⟩
abbrev cX0_state : ByteArray := prog_1_method_28_code
def yX0_state : MethodName := ⟨RX0, "state", "(I)I"⟩
abbrev cX0_isBundle : ByteArray := prog_1_method_24_code
def yX0_isBundle : MethodName := ⟨RX0, "isBundle", "(I)Z"⟩
abbrev cX0_arrival : ByteArray := prog_1_method_29_code
def yX0_arrival : MethodName := ⟨RX0, "arrival", "(I)I"⟩
abbrev cX0_hops : ByteArray := prog_1_method_30_code
def yX0_hops : MethodName := ⟨RX0, "hops", "(I)I"⟩
abbrev cX0_hop : ByteArray := prog_1_method_31_code
def yX0_hop : MethodName := ⟨RX0, "hop", "(II)I"⟩
abbrev cX0_place : ByteArray := prog_1_method_32_code
def yX0_place : MethodName := ⟨RX0, "place", "(I)I"⟩
abbrev cX0_quote : ByteArray := prog_1_method_33_code
def yX0_quote : MethodName := ⟨RX0, "quote", "(II)I"⟩
abbrev cX0_reach : ByteArray := prog_1_method_34_code
def yX0_reach : MethodName := ⟨RX0, "reach", "(III)I"⟩
abbrev cX0_latest : ByteArray := prog_1_method_36_code
def yX0_latest : MethodName := ⟨RX0, "latest", "(III)I"⟩
abbrev cX0_isInTime : ByteArray := prog_1_method_35_code
def yX0_isInTime : MethodName := ⟨RX0, "isInTime", "(IIII)Z"⟩
theorem q33 : (Jvm.Cond.initialized "ContactNetwork") ∈ lw_all := lw_g (lw_at lw_m1 1 rfl) rfl
theorem q36 : (Jvm.Cond.instantiable "ContactNetwork" (25 : Nat)) ∈ lw_all := lw_g (lw_at lw_m1 4 rfl) rfl
theorem q38 : (Jvm.Cond.instanceMethod ({ cls := "ContactNetwork", name := "<init>", desc := "()V" } : Jvm.MethodName)) ∈ lw_all := lw_g (lw_at lw_m1 6 rfl) rfl
theorem q39 : (Jvm.Cond.code ({ cls := "ContactNetwork", name := "<init>", desc := "()V" } : Jvm.MethodName) prog_1_method_1_code (1 : Nat) (Option.none : Option Jvm.ClassFile.FieldType)) ∈ lw_all := lw_g (lw_at lw_m1 7 rfl) rfl
theorem q40 : (Jvm.Cond.methodLink "ContactNetwork" (1 : Nat) ({ cls := "java/lang/Object", name := "<init>", desc := "()V" } : Jvm.MethodName)) ∈ lw_all := lw_g (lw_at lw_m1 8 rfl) rfl
theorem q43 : (Jvm.Cond.fieldLink "ContactNetwork" (87 : Nat) "ContactNetwork" "contacts" "I") ∈ lw_all := lw_g (lw_at lw_m1 11 rfl) rfl
theorem q44 : (Jvm.Cond.fieldLink "ContactNetwork" (7 : Nat) "ContactNetwork" "isCancelled" "[Z") ∈ lw_all := lw_g (lw_at lw_m1 12 rfl) rfl
theorem q45 : (Jvm.Cond.fieldLink "ContactNetwork" (13 : Nat) "ContactNetwork" "from" "[I") ∈ lw_all := lw_g (lw_at lw_m1 13 rfl) rfl
theorem q46 : (Jvm.Cond.fieldLink "ContactNetwork" (17 : Nat) "ContactNetwork" "to" "[I") ∈ lw_all := lw_g (lw_at lw_m1 14 rfl) rfl
theorem q47 : (Jvm.Cond.fieldLink "ContactNetwork" (20 : Nat) "ContactNetwork" "start" "[I") ∈ lw_all := lw_g (lw_at lw_m1 15 rfl) rfl
theorem q48 : (Jvm.Cond.fieldLink "ContactNetwork" (23 : Nat) "ContactNetwork" "end" "[I") ∈ lw_all := lw_g (lw_at lw_m1 16 rfl) rfl
theorem q49 : (Jvm.Cond.fieldLink "ContactNetwork" (26 : Nat) "ContactNetwork" "rate" "[I") ∈ lw_all := lw_g (lw_at lw_m1 17 rfl) rfl
theorem q50 : (Jvm.Cond.fieldLink "ContactNetwork" (29 : Nat) "ContactNetwork" "delay" "[I") ∈ lw_all := lw_g (lw_at lw_m1 18 rfl) rfl
theorem q51 : (Jvm.Cond.fieldLink "ContactNetwork" (32 : Nat) "ContactNetwork" "busy" "[Z") ∈ lw_all := lw_g (lw_at lw_m1 19 rfl) rfl
theorem q52 : (Jvm.Cond.fieldLink "ContactNetwork" (123 : Nat) "ContactNetwork" "bundles" "I") ∈ lw_all := lw_g (lw_at lw_m1 20 rfl) rfl
theorem q53 : (Jvm.Cond.fieldLink "ContactNetwork" (35 : Nat) "ContactNetwork" "source" "[I") ∈ lw_all := lw_g (lw_at lw_m1 21 rfl) rfl
theorem q54 : (Jvm.Cond.fieldLink "ContactNetwork" (38 : Nat) "ContactNetwork" "destination" "[I") ∈ lw_all := lw_g (lw_at lw_m1 22 rfl) rfl
theorem q55 : (Jvm.Cond.fieldLink "ContactNetwork" (41 : Nat) "ContactNetwork" "sizes" "[I") ∈ lw_all := lw_g (lw_at lw_m1 23 rfl) rfl
theorem q56 : (Jvm.Cond.fieldLink "ContactNetwork" (44 : Nat) "ContactNetwork" "limits" "[I") ∈ lw_all := lw_g (lw_at lw_m1 24 rfl) rfl
theorem q57 : (Jvm.Cond.fieldLink "ContactNetwork" (47 : Nat) "ContactNetwork" "isRouted" "[Z") ∈ lw_all := lw_g (lw_at lw_m1 25 rfl) rfl
theorem q58 : (Jvm.Cond.fieldLink "ContactNetwork" (50 : Nat) "ContactNetwork" "isHit" "[Z") ∈ lw_all := lw_g (lw_at lw_m1 26 rfl) rfl
theorem q59 : (Jvm.Cond.fieldLink "ContactNetwork" (53 : Nat) "ContactNetwork" "hopCount" "[I") ∈ lw_all := lw_g (lw_at lw_m1 27 rfl) rfl
theorem q60 : (Jvm.Cond.fieldLink "ContactNetwork" (56 : Nat) "ContactNetwork" "hopContact" "[I") ∈ lw_all := lw_g (lw_at lw_m1 28 rfl) rfl
theorem q61 : (Jvm.Cond.fieldLink "ContactNetwork" (59 : Nat) "ContactNetwork" "hopBegin" "[I") ∈ lw_all := lw_g (lw_at lw_m1 29 rfl) rfl
theorem q62 : (Jvm.Cond.fieldLink "ContactNetwork" (74 : Nat) "ContactNetwork" "now" "I") ∈ lw_all := lw_g (lw_at lw_m1 30 rfl) rfl
theorem q63 : (Jvm.Cond.fieldLink "ContactNetwork" (97 : Nat) "ContactNetwork" "routeCount" "I") ∈ lw_all := lw_g (lw_at lw_m1 31 rfl) rfl
theorem q64 : (Jvm.Cond.fieldLink "ContactNetwork" (62 : Nat) "ContactNetwork" "routeContact" "[I") ∈ lw_all := lw_g (lw_at lw_m1 32 rfl) rfl
theorem q65 : (Jvm.Cond.fieldLink "ContactNetwork" (65 : Nat) "ContactNetwork" "routeBegin" "[I") ∈ lw_all := lw_g (lw_at lw_m1 33 rfl) rfl
theorem q66 : (Jvm.Cond.fieldLink "ContactNetwork" (68 : Nat) "ContactNetwork" "early" "[I") ∈ lw_all := lw_g (lw_at lw_m1 34 rfl) rfl
theorem q67 : (Jvm.Cond.fieldLink "ContactNetwork" (71 : Nat) "ContactNetwork" "earlier" "[I") ∈ lw_all := lw_g (lw_at lw_m1 35 rfl) rfl
theorem q122 : (Jvm.Cond.instanceMethod ({ cls := "ContactNetwork", name := "contact", desc := "(III)I" } : Jvm.MethodName)) ∈ lw_all := lw_g (lw_at lw_m1 90 rfl) rfl
theorem q123 : (Jvm.Cond.selects "ContactNetwork" ({ cls := "ContactNetwork", name := "contact", desc := "(III)I" } : Jvm.MethodName) ({ cls := "ContactNetwork", name := "contact", desc := "(III)I" } : Jvm.MethodName)) ∈ lw_all := lw_g (lw_at lw_m1 91 rfl) rfl
theorem q124 : (Jvm.Cond.code ({ cls := "ContactNetwork", name := "contact", desc := "(III)I" } : Jvm.MethodName) prog_1_method_18_code (5 : Nat) (Option.some Jvm.ClassFile.FieldType.int)) ∈ lw_all := lw_g (lw_at lw_m1 92 rfl) rfl
theorem q125 : (Jvm.Cond.methodLink "ContactNetwork" (130 : Nat) ({ cls := "ContactNetwork", name := "areEnds", desc := "(I)Z" } : Jvm.MethodName)) ∈ lw_all := lw_g (lw_at lw_m1 93 rfl) rfl
theorem q126 : (Jvm.Cond.static ({ cls := "ContactNetwork", name := "areEnds", desc := "(I)Z" } : Jvm.MethodName)) ∈ lw_all := lw_g (lw_at lw_m1 94 rfl) rfl
theorem q127 : (Jvm.Cond.code ({ cls := "ContactNetwork", name := "areEnds", desc := "(I)Z" } : Jvm.MethodName) prog_1_method_14_code (1 : Nat) (Option.some Jvm.ClassFile.FieldType.boolean)) ∈ lw_all := lw_g (lw_at lw_m1 95 rfl) rfl
theorem q128 : (Jvm.Cond.methodLink "ContactNetwork" (134 : Nat) ({ cls := "ContactNetwork", name := "isSpan", desc := "(I)Z" } : Jvm.MethodName)) ∈ lw_all := lw_g (lw_at lw_m1 96 rfl) rfl
theorem q129 : (Jvm.Cond.static ({ cls := "ContactNetwork", name := "isSpan", desc := "(I)Z" } : Jvm.MethodName)) ∈ lw_all := lw_g (lw_at lw_m1 97 rfl) rfl
theorem q130 : (Jvm.Cond.code ({ cls := "ContactNetwork", name := "isSpan", desc := "(I)Z" } : Jvm.MethodName) prog_1_method_15_code (1 : Nat) (Option.some Jvm.ClassFile.FieldType.boolean)) ∈ lw_all := lw_g (lw_at lw_m1 98 rfl) rfl
theorem q131 : (Jvm.Cond.methodLink "ContactNetwork" (137 : Nat) ({ cls := "ContactNetwork", name := "areTerms", desc := "(I)Z" } : Jvm.MethodName)) ∈ lw_all := lw_g (lw_at lw_m1 99 rfl) rfl
theorem q132 : (Jvm.Cond.static ({ cls := "ContactNetwork", name := "areTerms", desc := "(I)Z" } : Jvm.MethodName)) ∈ lw_all := lw_g (lw_at lw_m1 100 rfl) rfl
theorem q133 : (Jvm.Cond.code ({ cls := "ContactNetwork", name := "areTerms", desc := "(I)Z" } : Jvm.MethodName) prog_1_method_16_code (1 : Nat) (Option.some Jvm.ClassFile.FieldType.boolean)) ∈ lw_all := lw_g (lw_at lw_m1 101 rfl) rfl
theorem q134 : (Jvm.Cond.methodLink "ContactNetwork" (140 : Nat) ({ cls := "ContactNetwork", name := "retry", desc := "()V" } : Jvm.MethodName)) ∈ lw_all := lw_g (lw_at lw_m1 102 rfl) rfl
theorem q136 : (Jvm.Cond.instanceMethod ({ cls := "ContactNetwork", name := "retry", desc := "()V" } : Jvm.MethodName)) ∈ lw_all := lw_g (lw_at lw_m1 104 rfl) rfl
theorem q137 : (Jvm.Cond.code ({ cls := "ContactNetwork", name := "retry", desc := "()V" } : Jvm.MethodName) prog_1_method_13_code (2 : Nat) (Option.none : Option Jvm.ClassFile.FieldType)) ∈ lw_all := lw_g (lw_at lw_m1 105 rfl) rfl
theorem q138 : (Jvm.Cond.methodLink "ContactNetwork" (126 : Nat) ({ cls := "ContactNetwork", name := "plan", desc := "(I)V" } : Jvm.MethodName)) ∈ lw_all := lw_g (lw_at lw_m1 106 rfl) rfl
theorem q140 : (Jvm.Cond.instanceMethod ({ cls := "ContactNetwork", name := "plan", desc := "(I)V" } : Jvm.MethodName)) ∈ lw_all := lw_g (lw_at lw_m1 108 rfl) rfl
theorem q141 : (Jvm.Cond.code ({ cls := "ContactNetwork", name := "plan", desc := "(I)V" } : Jvm.MethodName) prog_1_method_12_code (8 : Nat) (Option.none : Option Jvm.ClassFile.FieldType)) ∈ lw_all := lw_g (lw_at lw_m1 109 rfl) rfl
theorem q142 : (Jvm.Cond.methodLink "ContactNetwork" (108 : Nat) ({ cls := "ContactNetwork", name := "comesInBy", desc := "(II)I" } : Jvm.MethodName)) ∈ lw_all := lw_g (lw_at lw_m1 110 rfl) rfl
theorem q144 : (Jvm.Cond.instanceMethod ({ cls := "ContactNetwork", name := "comesInBy", desc := "(II)I" } : Jvm.MethodName)) ∈ lw_all := lw_g (lw_at lw_m1 112 rfl) rfl
theorem q145 : (Jvm.Cond.code ({ cls := "ContactNetwork", name := "comesInBy", desc := "(II)I" } : Jvm.MethodName) prog_1_method_10_code (4 : Nat) (Option.some Jvm.ClassFile.FieldType.int)) ∈ lw_all := lw_g (lw_at lw_m1 113 rfl) rfl
theorem q146 : (Jvm.Cond.methodLink "ContactNetwork" (79 : Nat) ({ cls := "ContactNetwork", name := "ticksFor", desc := "(II)I" } : Jvm.MethodName)) ∈ lw_all := lw_g (lw_at lw_m1 114 rfl) rfl
theorem q148 : (Jvm.Cond.instanceMethod ({ cls := "ContactNetwork", name := "ticksFor", desc := "(II)I" } : Jvm.MethodName)) ∈ lw_all := lw_g (lw_at lw_m1 116 rfl) rfl
theorem q149 : (Jvm.Cond.code ({ cls := "ContactNetwork", name := "ticksFor", desc := "(II)I" } : Jvm.MethodName) prog_1_method_2_code (3 : Nat) (Option.some Jvm.ClassFile.FieldType.int)) ∈ lw_all := lw_g (lw_at lw_m1 117 rfl) rfl
theorem q150 : (Jvm.Cond.methodLink "ContactNetwork" (111 : Nat) ({ cls := "ContactNetwork", name := "lastNode", desc := "(I)I" } : Jvm.MethodName)) ∈ lw_all := lw_g (lw_at lw_m1 118 rfl) rfl
theorem q152 : (Jvm.Cond.instanceMethod ({ cls := "ContactNetwork", name := "lastNode", desc := "(I)I" } : Jvm.MethodName)) ∈ lw_all := lw_g (lw_at lw_m1 120 rfl) rfl
theorem q153 : (Jvm.Cond.code ({ cls := "ContactNetwork", name := "lastNode", desc := "(I)I" } : Jvm.MethodName) prog_1_method_11_code (2 : Nat) (Option.some Jvm.ClassFile.FieldType.int)) ∈ lw_all := lw_g (lw_at lw_m1 121 rfl) rfl
theorem q154 : (Jvm.Cond.methodLink "ContactNetwork" (115 : Nat) ({ cls := "ContactNetwork", name := "findRoute", desc := "(IIII)I" } : Jvm.MethodName)) ∈ lw_all := lw_g (lw_at lw_m1 122 rfl) rfl
theorem q156 : (Jvm.Cond.instanceMethod ({ cls := "ContactNetwork", name := "findRoute", desc := "(IIII)I" } : Jvm.MethodName)) ∈ lw_all := lw_g (lw_at lw_m1 124 rfl) rfl
theorem q157 : (Jvm.Cond.code ({ cls := "ContactNetwork", name := "findRoute", desc := "(IIII)I" } : Jvm.MethodName) prog_1_method_6_code (12 : Nat) (Option.some Jvm.ClassFile.FieldType.int)) ∈ lw_all := lw_g (lw_at lw_m1 125 rfl) rfl
theorem q158 : (Jvm.Cond.methodLink "ContactNetwork" (93 : Nat) ({ cls := "ContactNetwork", name := "spread", desc := "(IIII)V" } : Jvm.MethodName)) ∈ lw_all := lw_g (lw_at lw_m1 126 rfl) rfl
theorem q160 : (Jvm.Cond.instanceMethod ({ cls := "ContactNetwork", name := "spread", desc := "(IIII)V" } : Jvm.MethodName)) ∈ lw_all := lw_g (lw_at lw_m1 128 rfl) rfl
theorem q161 : (Jvm.Cond.code ({ cls := "ContactNetwork", name := "spread", desc := "(IIII)V" } : Jvm.MethodName) prog_1_method_5_code (8 : Nat) (Option.none : Option Jvm.ClassFile.FieldType)) ∈ lw_all := lw_g (lw_at lw_m1 129 rfl) rfl
theorem q162 : (Jvm.Cond.constant "ContactNetwork" (78 : Nat) (1000000 : Int32)) ∈ lw_all := lw_g (lw_at lw_m1 130 rfl) rfl
theorem q163 : (Jvm.Cond.methodLink "ContactNetwork" (90 : Nat) ({ cls := "ContactNetwork", name := "comingIn", desc := "(III)I" } : Jvm.MethodName)) ∈ lw_all := lw_g (lw_at lw_m1 131 rfl) rfl
theorem q165 : (Jvm.Cond.instanceMethod ({ cls := "ContactNetwork", name := "comingIn", desc := "(III)I" } : Jvm.MethodName)) ∈ lw_all := lw_g (lw_at lw_m1 133 rfl) rfl
theorem q166 : (Jvm.Cond.code ({ cls := "ContactNetwork", name := "comingIn", desc := "(III)I" } : Jvm.MethodName) prog_1_method_4_code (6 : Nat) (Option.some Jvm.ClassFile.FieldType.int)) ∈ lw_all := lw_g (lw_at lw_m1 134 rfl) rfl
theorem q167 : (Jvm.Cond.methodLink "ContactNetwork" (83 : Nat) ({ cls := "ContactNetwork", name := "firstBegin", desc := "(III)I" } : Jvm.MethodName)) ∈ lw_all := lw_g (lw_at lw_m1 135 rfl) rfl
theorem q169 : (Jvm.Cond.instanceMethod ({ cls := "ContactNetwork", name := "firstBegin", desc := "(III)I" } : Jvm.MethodName)) ∈ lw_all := lw_g (lw_at lw_m1 137 rfl) rfl
theorem q170 : (Jvm.Cond.code ({ cls := "ContactNetwork", name := "firstBegin", desc := "(III)I" } : Jvm.MethodName) prog_1_method_3_code (7 : Nat) (Option.some Jvm.ClassFile.FieldType.int)) ∈ lw_all := lw_g (lw_at lw_m1 138 rfl) rfl
theorem q171 : (Jvm.Cond.methodLink "ContactNetwork" (100 : Nat) ({ cls := "ContactNetwork", name := "nextContact", desc := "(IIIIII)I" } : Jvm.MethodName)) ∈ lw_all := lw_g (lw_at lw_m1 139 rfl) rfl
theorem q173 : (Jvm.Cond.instanceMethod ({ cls := "ContactNetwork", name := "nextContact", desc := "(IIIIII)I" } : Jvm.MethodName)) ∈ lw_all := lw_g (lw_at lw_m1 141 rfl) rfl
theorem q174 : (Jvm.Cond.code ({ cls := "ContactNetwork", name := "nextContact", desc := "(IIIIII)I" } : Jvm.MethodName) prog_1_method_7_code (8 : Nat) (Option.some Jvm.ClassFile.FieldType.int)) ∈ lw_all := lw_g (lw_at lw_m1 142 rfl) rfl
theorem q175 : (Jvm.Cond.methodLink "ContactNetwork" (104 : Nat) ({ cls := "ContactNetwork", name := "leadsOn", desc := "(IIIIIII)Z" } : Jvm.MethodName)) ∈ lw_all := lw_g (lw_at lw_m1 143 rfl) rfl
theorem q177 : (Jvm.Cond.instanceMethod ({ cls := "ContactNetwork", name := "leadsOn", desc := "(IIIIIII)Z" } : Jvm.MethodName)) ∈ lw_all := lw_g (lw_at lw_m1 145 rfl) rfl
theorem q178 : (Jvm.Cond.code ({ cls := "ContactNetwork", name := "leadsOn", desc := "(IIIIIII)Z" } : Jvm.MethodName) prog_1_method_8_code (9 : Nat) (Option.some Jvm.ClassFile.FieldType.boolean)) ∈ lw_all := lw_g (lw_at lw_m1 146 rfl) rfl
theorem q179 : (Jvm.Cond.methodLink "ContactNetwork" (119 : Nat) ({ cls := "ContactNetwork", name := "setBusy", desc := "(IIIZ)V" } : Jvm.MethodName)) ∈ lw_all := lw_g (lw_at lw_m1 147 rfl) rfl
theorem q181 : (Jvm.Cond.instanceMethod ({ cls := "ContactNetwork", name := "setBusy", desc := "(IIIZ)V" } : Jvm.MethodName)) ∈ lw_all := lw_g (lw_at lw_m1 149 rfl) rfl
theorem q182 : (Jvm.Cond.code ({ cls := "ContactNetwork", name := "setBusy", desc := "(IIIZ)V" } : Jvm.MethodName) prog_1_method_9_code (6 : Nat) (Option.none : Option Jvm.ClassFile.FieldType)) ∈ lw_all := lw_g (lw_at lw_m1 150 rfl) rfl
theorem q184 : (Jvm.Cond.instanceMethod ({ cls := "ContactNetwork", name := "cancel", desc := "(I)I" } : Jvm.MethodName)) ∈ lw_all := lw_g (lw_at lw_m1 152 rfl) rfl
theorem q185 : (Jvm.Cond.selects "ContactNetwork" ({ cls := "ContactNetwork", name := "cancel", desc := "(I)I" } : Jvm.MethodName) ({ cls := "ContactNetwork", name := "cancel", desc := "(I)I" } : Jvm.MethodName)) ∈ lw_all := lw_g (lw_at lw_m1 153 rfl) rfl
theorem q186 : (Jvm.Cond.code ({ cls := "ContactNetwork", name := "cancel", desc := "(I)I" } : Jvm.MethodName) prog_1_method_21_code (5 : Nat) (Option.some Jvm.ClassFile.FieldType.int)) ∈ lw_all := lw_g (lw_at lw_m1 154 rfl) rfl
theorem q187 : (Jvm.Cond.methodLink "ContactNetwork" (143 : Nat) ({ cls := "ContactNetwork", name := "isContact", desc := "(I)Z" } : Jvm.MethodName)) ∈ lw_all := lw_g (lw_at lw_m1 155 rfl) rfl
theorem q189 : (Jvm.Cond.instanceMethod ({ cls := "ContactNetwork", name := "isContact", desc := "(I)Z" } : Jvm.MethodName)) ∈ lw_all := lw_g (lw_at lw_m1 157 rfl) rfl
theorem q190 : (Jvm.Cond.code ({ cls := "ContactNetwork", name := "isContact", desc := "(I)Z" } : Jvm.MethodName) prog_1_method_17_code (2 : Nat) (Option.some Jvm.ClassFile.FieldType.boolean)) ∈ lw_all := lw_g (lw_at lw_m1 158 rfl) rfl
theorem q191 : (Jvm.Cond.methodLink "ContactNetwork" (146 : Nat) ({ cls := "ContactNetwork", name := "openBooking", desc := "(II)I" } : Jvm.MethodName)) ∈ lw_all := lw_g (lw_at lw_m1 159 rfl) rfl
theorem q193 : (Jvm.Cond.instanceMethod ({ cls := "ContactNetwork", name := "openBooking", desc := "(II)I" } : Jvm.MethodName)) ∈ lw_all := lw_g (lw_at lw_m1 161 rfl) rfl
theorem q194 : (Jvm.Cond.code ({ cls := "ContactNetwork", name := "openBooking", desc := "(II)I" } : Jvm.MethodName) prog_1_method_19_code (5 : Nat) (Option.some Jvm.ClassFile.FieldType.int)) ∈ lw_all := lw_g (lw_at lw_m1 162 rfl) rfl
theorem q195 : (Jvm.Cond.methodLink "ContactNetwork" (149 : Nat) ({ cls := "ContactNetwork", name := "loseFrom", desc := "(II)V" } : Jvm.MethodName)) ∈ lw_all := lw_g (lw_at lw_m1 163 rfl) rfl
theorem q197 : (Jvm.Cond.instanceMethod ({ cls := "ContactNetwork", name := "loseFrom", desc := "(II)V" } : Jvm.MethodName)) ∈ lw_all := lw_g (lw_at lw_m1 165 rfl) rfl
theorem q198 : (Jvm.Cond.code ({ cls := "ContactNetwork", name := "loseFrom", desc := "(II)V" } : Jvm.MethodName) prog_1_method_20_code (6 : Nat) (Option.none : Option Jvm.ClassFile.FieldType)) ∈ lw_all := lw_g (lw_at lw_m1 166 rfl) rfl
theorem q200 : (Jvm.Cond.instanceMethod ({ cls := "ContactNetwork", name := "booked", desc := "(I)I" } : Jvm.MethodName)) ∈ lw_all := lw_g (lw_at lw_m1 168 rfl) rfl
theorem q201 : (Jvm.Cond.selects "ContactNetwork" ({ cls := "ContactNetwork", name := "booked", desc := "(I)I" } : Jvm.MethodName) ({ cls := "ContactNetwork", name := "booked", desc := "(I)I" } : Jvm.MethodName)) ∈ lw_all := lw_g (lw_at lw_m1 169 rfl) rfl
theorem q202 : (Jvm.Cond.code ({ cls := "ContactNetwork", name := "booked", desc := "(I)I" } : Jvm.MethodName) prog_1_method_22_code (4 : Nat) (Option.some Jvm.ClassFile.FieldType.int)) ∈ lw_all := lw_g (lw_at lw_m1 170 rfl) rfl
theorem q204 : (Jvm.Cond.instanceMethod ({ cls := "ContactNetwork", name := "send", desc := "(III)I" } : Jvm.MethodName)) ∈ lw_all := lw_g (lw_at lw_m1 172 rfl) rfl
theorem q205 : (Jvm.Cond.selects "ContactNetwork" ({ cls := "ContactNetwork", name := "send", desc := "(III)I" } : Jvm.MethodName) ({ cls := "ContactNetwork", name := "send", desc := "(III)I" } : Jvm.MethodName)) ∈ lw_all := lw_g (lw_at lw_m1 173 rfl) rfl
theorem q206 : (Jvm.Cond.code ({ cls := "ContactNetwork", name := "send", desc := "(III)I" } : Jvm.MethodName) prog_1_method_25_code (5 : Nat) (Option.some Jvm.ClassFile.FieldType.int)) ∈ lw_all := lw_g (lw_at lw_m1 174 rfl) rfl
theorem q207 : (Jvm.Cond.methodLink "ContactNetwork" (153 : Nat) ({ cls := "ContactNetwork", name := "isSize", desc := "(I)Z" } : Jvm.MethodName)) ∈ lw_all := lw_g (lw_at lw_m1 175 rfl) rfl
theorem q208 : (Jvm.Cond.static ({ cls := "ContactNetwork", name := "isSize", desc := "(I)Z" } : Jvm.MethodName)) ∈ lw_all := lw_g (lw_at lw_m1 176 rfl) rfl
theorem q209 : (Jvm.Cond.code ({ cls := "ContactNetwork", name := "isSize", desc := "(I)Z" } : Jvm.MethodName) prog_1_method_23_code (1 : Nat) (Option.some Jvm.ClassFile.FieldType.boolean)) ∈ lw_all := lw_g (lw_at lw_m1 177 rfl) rfl
theorem q211 : (Jvm.Cond.instanceMethod ({ cls := "ContactNetwork", name := "pass", desc := "(I)I" } : Jvm.MethodName)) ∈ lw_all := lw_g (lw_at lw_m1 179 rfl) rfl
theorem q212 : (Jvm.Cond.selects "ContactNetwork" ({ cls := "ContactNetwork", name := "pass", desc := "(I)I" } : Jvm.MethodName) ({ cls := "ContactNetwork", name := "pass", desc := "(I)I" } : Jvm.MethodName)) ∈ lw_all := lw_g (lw_at lw_m1 180 rfl) rfl
theorem q213 : (Jvm.Cond.code ({ cls := "ContactNetwork", name := "pass", desc := "(I)I" } : Jvm.MethodName) prog_1_method_26_code (2 : Nat) (Option.some Jvm.ClassFile.FieldType.int)) ∈ lw_all := lw_g (lw_at lw_m1 181 rfl) rfl
theorem q215 : (Jvm.Cond.instanceMethod ({ cls := "ContactNetwork", name := "time", desc := "()I" } : Jvm.MethodName)) ∈ lw_all := lw_g (lw_at lw_m1 183 rfl) rfl
theorem q216 : (Jvm.Cond.selects "ContactNetwork" ({ cls := "ContactNetwork", name := "time", desc := "()I" } : Jvm.MethodName) ({ cls := "ContactNetwork", name := "time", desc := "()I" } : Jvm.MethodName)) ∈ lw_all := lw_g (lw_at lw_m1 184 rfl) rfl
theorem q217 : (Jvm.Cond.code ({ cls := "ContactNetwork", name := "time", desc := "()I" } : Jvm.MethodName) prog_1_method_27_code (1 : Nat) (Option.some Jvm.ClassFile.FieldType.int)) ∈ lw_all := lw_g (lw_at lw_m1 185 rfl) rfl
theorem q219 : (Jvm.Cond.instanceMethod ({ cls := "ContactNetwork", name := "state", desc := "(I)I" } : Jvm.MethodName)) ∈ lw_all := lw_g (lw_at lw_m1 187 rfl) rfl
theorem q220 : (Jvm.Cond.selects "ContactNetwork" ({ cls := "ContactNetwork", name := "state", desc := "(I)I" } : Jvm.MethodName) ({ cls := "ContactNetwork", name := "state", desc := "(I)I" } : Jvm.MethodName)) ∈ lw_all := lw_g (lw_at lw_m1 188 rfl) rfl
theorem q221 : (Jvm.Cond.code ({ cls := "ContactNetwork", name := "state", desc := "(I)I" } : Jvm.MethodName) prog_1_method_28_code (2 : Nat) (Option.some Jvm.ClassFile.FieldType.int)) ∈ lw_all := lw_g (lw_at lw_m1 189 rfl) rfl
theorem q222 : (Jvm.Cond.methodLink "ContactNetwork" (156 : Nat) ({ cls := "ContactNetwork", name := "isBundle", desc := "(I)Z" } : Jvm.MethodName)) ∈ lw_all := lw_g (lw_at lw_m1 190 rfl) rfl
theorem q224 : (Jvm.Cond.instanceMethod ({ cls := "ContactNetwork", name := "isBundle", desc := "(I)Z" } : Jvm.MethodName)) ∈ lw_all := lw_g (lw_at lw_m1 192 rfl) rfl
theorem q225 : (Jvm.Cond.code ({ cls := "ContactNetwork", name := "isBundle", desc := "(I)Z" } : Jvm.MethodName) prog_1_method_24_code (2 : Nat) (Option.some Jvm.ClassFile.FieldType.boolean)) ∈ lw_all := lw_g (lw_at lw_m1 193 rfl) rfl
theorem q227 : (Jvm.Cond.instanceMethod ({ cls := "ContactNetwork", name := "arrival", desc := "(I)I" } : Jvm.MethodName)) ∈ lw_all := lw_g (lw_at lw_m1 195 rfl) rfl
theorem q228 : (Jvm.Cond.selects "ContactNetwork" ({ cls := "ContactNetwork", name := "arrival", desc := "(I)I" } : Jvm.MethodName) ({ cls := "ContactNetwork", name := "arrival", desc := "(I)I" } : Jvm.MethodName)) ∈ lw_all := lw_g (lw_at lw_m1 196 rfl) rfl
theorem q229 : (Jvm.Cond.code ({ cls := "ContactNetwork", name := "arrival", desc := "(I)I" } : Jvm.MethodName) prog_1_method_29_code (2 : Nat) (Option.some Jvm.ClassFile.FieldType.int)) ∈ lw_all := lw_g (lw_at lw_m1 197 rfl) rfl
theorem q231 : (Jvm.Cond.instanceMethod ({ cls := "ContactNetwork", name := "hops", desc := "(I)I" } : Jvm.MethodName)) ∈ lw_all := lw_g (lw_at lw_m1 199 rfl) rfl
theorem q232 : (Jvm.Cond.selects "ContactNetwork" ({ cls := "ContactNetwork", name := "hops", desc := "(I)I" } : Jvm.MethodName) ({ cls := "ContactNetwork", name := "hops", desc := "(I)I" } : Jvm.MethodName)) ∈ lw_all := lw_g (lw_at lw_m1 200 rfl) rfl
theorem q233 : (Jvm.Cond.code ({ cls := "ContactNetwork", name := "hops", desc := "(I)I" } : Jvm.MethodName) prog_1_method_30_code (2 : Nat) (Option.some Jvm.ClassFile.FieldType.int)) ∈ lw_all := lw_g (lw_at lw_m1 201 rfl) rfl
theorem q235 : (Jvm.Cond.instanceMethod ({ cls := "ContactNetwork", name := "hop", desc := "(II)I" } : Jvm.MethodName)) ∈ lw_all := lw_g (lw_at lw_m1 203 rfl) rfl
theorem q236 : (Jvm.Cond.selects "ContactNetwork" ({ cls := "ContactNetwork", name := "hop", desc := "(II)I" } : Jvm.MethodName) ({ cls := "ContactNetwork", name := "hop", desc := "(II)I" } : Jvm.MethodName)) ∈ lw_all := lw_g (lw_at lw_m1 204 rfl) rfl
theorem q237 : (Jvm.Cond.code ({ cls := "ContactNetwork", name := "hop", desc := "(II)I" } : Jvm.MethodName) prog_1_method_31_code (3 : Nat) (Option.some Jvm.ClassFile.FieldType.int)) ∈ lw_all := lw_g (lw_at lw_m1 205 rfl) rfl
theorem q239 : (Jvm.Cond.instanceMethod ({ cls := "ContactNetwork", name := "place", desc := "(I)I" } : Jvm.MethodName)) ∈ lw_all := lw_g (lw_at lw_m1 207 rfl) rfl
theorem q240 : (Jvm.Cond.selects "ContactNetwork" ({ cls := "ContactNetwork", name := "place", desc := "(I)I" } : Jvm.MethodName) ({ cls := "ContactNetwork", name := "place", desc := "(I)I" } : Jvm.MethodName)) ∈ lw_all := lw_g (lw_at lw_m1 208 rfl) rfl
theorem q241 : (Jvm.Cond.code ({ cls := "ContactNetwork", name := "place", desc := "(I)I" } : Jvm.MethodName) prog_1_method_32_code (4 : Nat) (Option.some Jvm.ClassFile.FieldType.int)) ∈ lw_all := lw_g (lw_at lw_m1 209 rfl) rfl
theorem q243 : (Jvm.Cond.instanceMethod ({ cls := "ContactNetwork", name := "quote", desc := "(II)I" } : Jvm.MethodName)) ∈ lw_all := lw_g (lw_at lw_m1 211 rfl) rfl
theorem q244 : (Jvm.Cond.selects "ContactNetwork" ({ cls := "ContactNetwork", name := "quote", desc := "(II)I" } : Jvm.MethodName) ({ cls := "ContactNetwork", name := "quote", desc := "(II)I" } : Jvm.MethodName)) ∈ lw_all := lw_g (lw_at lw_m1 212 rfl) rfl
theorem q245 : (Jvm.Cond.code ({ cls := "ContactNetwork", name := "quote", desc := "(II)I" } : Jvm.MethodName) prog_1_method_33_code (4 : Nat) (Option.some Jvm.ClassFile.FieldType.int)) ∈ lw_all := lw_g (lw_at lw_m1 213 rfl) rfl
theorem q247 : (Jvm.Cond.instanceMethod ({ cls := "ContactNetwork", name := "reach", desc := "(III)I" } : Jvm.MethodName)) ∈ lw_all := lw_g (lw_at lw_m1 215 rfl) rfl
theorem q248 : (Jvm.Cond.selects "ContactNetwork" ({ cls := "ContactNetwork", name := "reach", desc := "(III)I" } : Jvm.MethodName) ({ cls := "ContactNetwork", name := "reach", desc := "(III)I" } : Jvm.MethodName)) ∈ lw_all := lw_g (lw_at lw_m1 216 rfl) rfl
theorem q249 : (Jvm.Cond.code ({ cls := "ContactNetwork", name := "reach", desc := "(III)I" } : Jvm.MethodName) prog_1_method_34_code (6 : Nat) (Option.some Jvm.ClassFile.FieldType.int)) ∈ lw_all := lw_g (lw_at lw_m1 217 rfl) rfl
theorem q251 : (Jvm.Cond.instanceMethod ({ cls := "ContactNetwork", name := "latest", desc := "(III)I" } : Jvm.MethodName)) ∈ lw_all := lw_g (lw_at lw_m1 219 rfl) rfl
theorem q252 : (Jvm.Cond.selects "ContactNetwork" ({ cls := "ContactNetwork", name := "latest", desc := "(III)I" } : Jvm.MethodName) ({ cls := "ContactNetwork", name := "latest", desc := "(III)I" } : Jvm.MethodName)) ∈ lw_all := lw_g (lw_at lw_m1 220 rfl) rfl
theorem q253 : (Jvm.Cond.code ({ cls := "ContactNetwork", name := "latest", desc := "(III)I" } : Jvm.MethodName) prog_1_method_36_code (8 : Nat) (Option.some Jvm.ClassFile.FieldType.int)) ∈ lw_all := lw_g (lw_at lw_m1 221 rfl) rfl
theorem q254 : (Jvm.Cond.methodLink "ContactNetwork" (159 : Nat) ({ cls := "ContactNetwork", name := "isInTime", desc := "(IIII)Z" } : Jvm.MethodName)) ∈ lw_all := lw_g (lw_at lw_m1 222 rfl) rfl
theorem q256 : (Jvm.Cond.instanceMethod ({ cls := "ContactNetwork", name := "isInTime", desc := "(IIII)Z" } : Jvm.MethodName)) ∈ lw_all := lw_g (lw_at lw_m1 224 rfl) rfl
theorem q257 : (Jvm.Cond.code ({ cls := "ContactNetwork", name := "isInTime", desc := "(IIII)Z" } : Jvm.MethodName) prog_1_method_35_code (6 : Nat) (Option.some Jvm.ClassFile.FieldType.boolean)) ∈ lw_all := lw_g (lw_at lw_m1 225 rfl) rfl
theorem in_X0 : ∀ w ∈ wsX00, w ∈ lw_all := lw_in wsX00 [68, 70, 72, 74, 76, 78, 80, 82, 84, 86, 88, 90, 92, 94, 96, 98, 100, 102, 104, 106, 108, 110, 112, 114, 116] (by decide +kernel) (by decide +kernel)
end
section
/-! ContactNetworkModel -/
set_option maxRecDepth 100000
def RX1 : String := "ContactNetworkModel"
def TX1 : u_T := fun k => match k with
  | 0 => ("ContactNetworkModel", "now", "I", false)
  | 1 => ("ContactNetworkModel", "contacts", "I", false)
  | 2 => ("ContactNetworkModel", "froms", "[I", true)
  | 3 => ("ContactNetworkModel", "tos", "[I", true)
  | 4 => ("ContactNetworkModel", "starts", "[I", true)
  | 5 => ("ContactNetworkModel", "stops", "[I", true)
  | 6 => ("ContactNetworkModel", "rates", "[I", true)
  | 7 => ("ContactNetworkModel", "delays", "[I", true)
  | 8 => ("ContactNetworkModel", "cancelled", "[Z", true)
  | 9 => ("ContactNetworkModel", "bundles", "I", false)
  | 10 => ("ContactNetworkModel", "sources", "[I", true)
  | 11 => ("ContactNetworkModel", "goals", "[I", true)
  | 12 => ("ContactNetworkModel", "sizes", "[I", true)
  | 13 => ("ContactNetworkModel", "limits", "[I", true)
  | 14 => ("ContactNetworkModel", "stuck", "[Z", true)
  | 15 => ("ContactNetworkModel", "hops", "[I", true)
  | 16 => ("ContactNetworkModel", "overs", "[I", true)
  | 17 => ("ContactNetworkModel", "begins", "[I", true)
  | 18 => ("ContactNetworkModel", "tried", "[I", true)
  | 19 => ("ContactNetworkModel", "triedBegins", "[I", true)
  | 20 => ("ContactNetworkModel", "nodes", "[I", true)
  | 21 => ("ContactNetworkModel", "times", "[I", true)
  | 22 => ("ContactNetworkModel", "nexts", "[I", true)
  | 23 => ("ContactNetworkModel", "best", "I", false)
  | 24 => ("ContactNetworkModel", "bestArrival", "I", false)
  | 25 => ("ContactNetworkModel", "bestOvers", "[I", true)
  | _ => ("ContactNetworkModel", "bestBegins", "[I", true)
def tyX1 : Nat → FieldType := fun k => match k with
  | 0 => .int
  | 1 => .int
  | 2 => .array .int
  | 3 => .array .int
  | 4 => .array .int
  | 5 => .array .int
  | 6 => .array .int
  | 7 => .array .int
  | 8 => .array .boolean
  | 9 => .int
  | 10 => .array .int
  | 11 => .array .int
  | 12 => .array .int
  | 13 => .array .int
  | 14 => .array .boolean
  | 15 => .array .int
  | 16 => .array .int
  | 17 => .array .int
  | 18 => .array .int
  | 19 => .array .int
  | 20 => .array .int
  | 21 => .array .int
  | 22 => .array .int
  | 23 => .int
  | 24 => .int
  | 25 => .array .int
  | _ => .array .int
abbrev wsX10 : List Cond := u_ws RX1 TX1 27
set_option maxRecDepth 100000 in
theorem nmX1 : ∀ a, a < 27 → ∀ b, b < 27 → a ≠ b → (TX1 a).2.1 ≠ (TX1 b).2.1 := by decide +kernel
set_option maxRecDepth 100000 in
theorem tyX1_ok : ∀ k, k < 27 → parseFieldDescriptor (TX1 k).2.2.1 = some (tyX1 k) := by decide +kernel
abbrev cX1_init : ByteArray := prog_3_method_1_code
def yX1_init : MethodName := ⟨RX1, "<init>", "()V"⟩
abbrev cX1_contact : ByteArray := prog_3_method_15_code
def yX1_contact : MethodName := ⟨RX1, "contact", "(III)I"⟩
abbrev cX1_badEnds : ByteArray := prog_3_method_2_code
def yX1_badEnds : MethodName := ⟨RX1, "badEnds", "(I)Z"⟩
abbrev cX1_retry : ByteArray := prog_3_method_14_code
def yX1_retry : MethodName := ⟨RX1, "retry", "()V"⟩
abbrev cX1_plan : ByteArray := prog_3_method_13_code
def yX1_plan : MethodName := ⟨RX1, "plan", "(I)V"⟩
abbrev cX1_lastTime : ByteArray := prog_3_method_12_code
def yX1_lastTime : MethodName := ⟨RX1, "lastTime", "(I)I"⟩
abbrev cX1_comesIn : ByteArray := prog_3_method_5_code
def yX1_comesIn : MethodName := ⟨RX1, "comesIn", "(III)I"⟩
abbrev cX1_ticks : ByteArray := prog_3_method_4_code
def yX1_ticks : MethodName := ⟨RX1, "ticks", "(II)I"⟩
abbrev cX1_lastNode : ByteArray := prog_3_method_11_code
def yX1_lastNode : MethodName := ⟨RX1, "lastNode", "(I)I"⟩
abbrev cX1_findBest : ByteArray := prog_3_method_10_code
def yX1_findBest : MethodName := ⟨RX1, "findBest", "(IIII)Z"⟩
abbrev cX1_isTried : ByteArray := prog_3_method_8_code
def yX1_isTried : MethodName := ⟨RX1, "isTried", "(II)Z"⟩
abbrev cX1_earliest : ByteArray := prog_3_method_7_code
def yX1_earliest : MethodName := ⟨RX1, "earliest", "(III)I"⟩
abbrev cX1_isFree : ByteArray := prog_3_method_6_code
def yX1_isFree : MethodName := ⟨RX1, "isFree", "(III)Z"⟩
abbrev cX1_keep : ByteArray := prog_3_method_9_code
def yX1_keep : MethodName := ⟨RX1, "keep", "(II)V"⟩
abbrev cX1_cancel : ByteArray := prog_3_method_17_code
def yX1_cancel : MethodName := ⟨RX1, "cancel", "(I)I"⟩
abbrev cX1_hitAt : ByteArray := prog_3_method_16_code
def yX1_hitAt : MethodName := ⟨RX1, "hitAt", "(II)I"⟩
abbrev cX1_booked : ByteArray := prog_3_method_18_code
def yX1_booked : MethodName := ⟨RX1, "booked", "(I)I"⟩
abbrev cX1_send : ByteArray := prog_3_method_20_code
def yX1_send : MethodName := ⟨RX1, "send", "(III)I"⟩
abbrev cX1_badSize : ByteArray := prog_3_method_3_code
def yX1_badSize : MethodName := ⟨RX1, "badSize", "(I)Z"⟩
abbrev cX1_pass : ByteArray := prog_3_method_21_code
def yX1_pass : MethodName := ⟨RX1, "pass", "(I)I"⟩
abbrev cX1_time : ByteArray := prog_3_method_22_code
def yX1_time : MethodName := ⟨RX1, "time", "()I"⟩
abbrev cX1_state : ByteArray := prog_3_method_23_code
def yX1_state : MethodName := ⟨RX1, "state", "(I)I"⟩
abbrev cX1_badBundle : ByteArray := prog_3_method_19_code
def yX1_badBundle : MethodName := ⟨RX1, "badBundle", "(I)Z"⟩
abbrev cX1_arrival : ByteArray := prog_3_method_24_code
def yX1_arrival : MethodName := ⟨RX1, "arrival", "(I)I"⟩
abbrev cX1_hops : ByteArray := prog_3_method_25_code
def yX1_hops : MethodName := ⟨RX1, "hops", "(I)I"⟩
abbrev cX1_hop : ByteArray := prog_3_method_26_code
def yX1_hop : MethodName := ⟨RX1, "hop", "(II)I"⟩
abbrev cX1_place : ByteArray := prog_3_method_27_code
def yX1_place : MethodName := ⟨RX1, "place", "(I)I"⟩
abbrev cX1_quote : ByteArray := prog_3_method_28_code
def yX1_quote : MethodName := ⟨RX1, "quote", "(II)I"⟩
abbrev cX1_reach : ByteArray := prog_3_method_29_code
def yX1_reach : MethodName := ⟨RX1, "reach", "(III)I"⟩
abbrev cX1_latest : ByteArray := prog_3_method_30_code
def yX1_latest : MethodName := ⟨RX1, "latest", "(III)I"⟩
theorem q34 : (Jvm.Cond.initialized "ContactNetworkModel") ∈ lw_all := lw_g (lw_at lw_m1 2 rfl) rfl
theorem q259 : (Jvm.Cond.instantiable "ContactNetworkModel" (27 : Nat)) ∈ lw_all := lw_g (lw_at lw_m1 227 rfl) rfl
theorem q261 : (Jvm.Cond.instanceMethod ({ cls := "ContactNetworkModel", name := "<init>", desc := "()V" } : Jvm.MethodName)) ∈ lw_all := lw_g (lw_at lw_m1 229 rfl) rfl
theorem q262 : (Jvm.Cond.code ({ cls := "ContactNetworkModel", name := "<init>", desc := "()V" } : Jvm.MethodName) prog_3_method_1_code (1 : Nat) (Option.none : Option Jvm.ClassFile.FieldType)) ∈ lw_all := lw_g (lw_at lw_m1 230 rfl) rfl
theorem q263 : (Jvm.Cond.methodLink "ContactNetworkModel" (1 : Nat) ({ cls := "java/lang/Object", name := "<init>", desc := "()V" } : Jvm.MethodName)) ∈ lw_all := lw_g (lw_at lw_m1 231 rfl) rfl
theorem q264 : (Jvm.Cond.fieldLink "ContactNetworkModel" (117 : Nat) "ContactNetworkModel" "now" "I") ∈ lw_all := lw_g (lw_at lw_m1 232 rfl) rfl
theorem q265 : (Jvm.Cond.fieldLink "ContactNetworkModel" (95 : Nat) "ContactNetworkModel" "contacts" "I") ∈ lw_all := lw_g (lw_at lw_m1 233 rfl) rfl
theorem q266 : (Jvm.Cond.fieldLink "ContactNetworkModel" (7 : Nat) "ContactNetworkModel" "froms" "[I") ∈ lw_all := lw_g (lw_at lw_m1 234 rfl) rfl
theorem q267 : (Jvm.Cond.fieldLink "ContactNetworkModel" (13 : Nat) "ContactNetworkModel" "tos" "[I") ∈ lw_all := lw_g (lw_at lw_m1 235 rfl) rfl
theorem q268 : (Jvm.Cond.fieldLink "ContactNetworkModel" (16 : Nat) "ContactNetworkModel" "starts" "[I") ∈ lw_all := lw_g (lw_at lw_m1 236 rfl) rfl
theorem q269 : (Jvm.Cond.fieldLink "ContactNetworkModel" (19 : Nat) "ContactNetworkModel" "stops" "[I") ∈ lw_all := lw_g (lw_at lw_m1 237 rfl) rfl
theorem q270 : (Jvm.Cond.fieldLink "ContactNetworkModel" (22 : Nat) "ContactNetworkModel" "rates" "[I") ∈ lw_all := lw_g (lw_at lw_m1 238 rfl) rfl
theorem q271 : (Jvm.Cond.fieldLink "ContactNetworkModel" (25 : Nat) "ContactNetworkModel" "delays" "[I") ∈ lw_all := lw_g (lw_at lw_m1 239 rfl) rfl
theorem q272 : (Jvm.Cond.fieldLink "ContactNetworkModel" (28 : Nat) "ContactNetworkModel" "cancelled" "[Z") ∈ lw_all := lw_g (lw_at lw_m2 0 rfl) rfl
theorem q273 : (Jvm.Cond.fieldLink "ContactNetworkModel" (81 : Nat) "ContactNetworkModel" "bundles" "I") ∈ lw_all := lw_g (lw_at lw_m2 1 rfl) rfl
theorem q274 : (Jvm.Cond.fieldLink "ContactNetworkModel" (32 : Nat) "ContactNetworkModel" "sources" "[I") ∈ lw_all := lw_g (lw_at lw_m2 2 rfl) rfl
theorem q275 : (Jvm.Cond.fieldLink "ContactNetworkModel" (35 : Nat) "ContactNetworkModel" "goals" "[I") ∈ lw_all := lw_g (lw_at lw_m2 3 rfl) rfl
theorem q276 : (Jvm.Cond.fieldLink "ContactNetworkModel" (38 : Nat) "ContactNetworkModel" "sizes" "[I") ∈ lw_all := lw_g (lw_at lw_m2 4 rfl) rfl
theorem q277 : (Jvm.Cond.fieldLink "ContactNetworkModel" (41 : Nat) "ContactNetworkModel" "limits" "[I") ∈ lw_all := lw_g (lw_at lw_m2 5 rfl) rfl
theorem q278 : (Jvm.Cond.fieldLink "ContactNetworkModel" (44 : Nat) "ContactNetworkModel" "stuck" "[Z") ∈ lw_all := lw_g (lw_at lw_m2 6 rfl) rfl
theorem q279 : (Jvm.Cond.fieldLink "ContactNetworkModel" (47 : Nat) "ContactNetworkModel" "hops" "[I") ∈ lw_all := lw_g (lw_at lw_m2 7 rfl) rfl
theorem q280 : (Jvm.Cond.fieldLink "ContactNetworkModel" (50 : Nat) "ContactNetworkModel" "overs" "[I") ∈ lw_all := lw_g (lw_at lw_m2 8 rfl) rfl
theorem q281 : (Jvm.Cond.fieldLink "ContactNetworkModel" (53 : Nat) "ContactNetworkModel" "begins" "[I") ∈ lw_all := lw_g (lw_at lw_m2 9 rfl) rfl
theorem q282 : (Jvm.Cond.fieldLink "ContactNetworkModel" (56 : Nat) "ContactNetworkModel" "tried" "[I") ∈ lw_all := lw_g (lw_at lw_m2 10 rfl) rfl
theorem q283 : (Jvm.Cond.fieldLink "ContactNetworkModel" (59 : Nat) "ContactNetworkModel" "triedBegins" "[I") ∈ lw_all := lw_g (lw_at lw_m2 11 rfl) rfl
theorem q284 : (Jvm.Cond.fieldLink "ContactNetworkModel" (62 : Nat) "ContactNetworkModel" "nodes" "[I") ∈ lw_all := lw_g (lw_at lw_m2 12 rfl) rfl
theorem q285 : (Jvm.Cond.fieldLink "ContactNetworkModel" (65 : Nat) "ContactNetworkModel" "times" "[I") ∈ lw_all := lw_g (lw_at lw_m2 13 rfl) rfl
theorem q286 : (Jvm.Cond.fieldLink "ContactNetworkModel" (68 : Nat) "ContactNetworkModel" "nexts" "[I") ∈ lw_all := lw_g (lw_at lw_m2 14 rfl) rfl
theorem q287 : (Jvm.Cond.fieldLink "ContactNetworkModel" (89 : Nat) "ContactNetworkModel" "best" "I") ∈ lw_all := lw_g (lw_at lw_m2 15 rfl) rfl
theorem q288 : (Jvm.Cond.fieldLink "ContactNetworkModel" (92 : Nat) "ContactNetworkModel" "bestArrival" "I") ∈ lw_all := lw_g (lw_at lw_m2 16 rfl) rfl
theorem q289 : (Jvm.Cond.fieldLink "ContactNetworkModel" (71 : Nat) "ContactNetworkModel" "bestOvers" "[I") ∈ lw_all := lw_g (lw_at lw_m2 17 rfl) rfl
theorem q290 : (Jvm.Cond.fieldLink "ContactNetworkModel" (74 : Nat) "ContactNetworkModel" "bestBegins" "[I") ∈ lw_all := lw_g (lw_at lw_m2 18 rfl) rfl
theorem q347 : (Jvm.Cond.instanceMethod ({ cls := "ContactNetworkModel", name := "contact", desc := "(III)I" } : Jvm.MethodName)) ∈ lw_all := lw_g (lw_at lw_m2 75 rfl) rfl
theorem q348 : (Jvm.Cond.selects "ContactNetworkModel" ({ cls := "ContactNetworkModel", name := "contact", desc := "(III)I" } : Jvm.MethodName) ({ cls := "ContactNetworkModel", name := "contact", desc := "(III)I" } : Jvm.MethodName)) ∈ lw_all := lw_g (lw_at lw_m2 76 rfl) rfl
theorem q349 : (Jvm.Cond.code ({ cls := "ContactNetworkModel", name := "contact", desc := "(III)I" } : Jvm.MethodName) prog_3_method_15_code (4 : Nat) (Option.some Jvm.ClassFile.FieldType.int)) ∈ lw_all := lw_g (lw_at lw_m2 77 rfl) rfl
theorem q350 : (Jvm.Cond.methodLink "ContactNetworkModel" (131 : Nat) ({ cls := "ContactNetworkModel", name := "badEnds", desc := "(I)Z" } : Jvm.MethodName)) ∈ lw_all := lw_g (lw_at lw_m2 78 rfl) rfl
theorem q352 : (Jvm.Cond.instanceMethod ({ cls := "ContactNetworkModel", name := "badEnds", desc := "(I)Z" } : Jvm.MethodName)) ∈ lw_all := lw_g (lw_at lw_m2 80 rfl) rfl
theorem q353 : (Jvm.Cond.code ({ cls := "ContactNetworkModel", name := "badEnds", desc := "(I)Z" } : Jvm.MethodName) prog_3_method_2_code (2 : Nat) (Option.some Jvm.ClassFile.FieldType.boolean)) ∈ lw_all := lw_g (lw_at lw_m2 81 rfl) rfl
theorem q354 : (Jvm.Cond.methodLink "ContactNetworkModel" (135 : Nat) ({ cls := "ContactNetworkModel", name := "retry", desc := "()V" } : Jvm.MethodName)) ∈ lw_all := lw_g (lw_at lw_m2 82 rfl) rfl
theorem q356 : (Jvm.Cond.instanceMethod ({ cls := "ContactNetworkModel", name := "retry", desc := "()V" } : Jvm.MethodName)) ∈ lw_all := lw_g (lw_at lw_m2 84 rfl) rfl
theorem q357 : (Jvm.Cond.code ({ cls := "ContactNetworkModel", name := "retry", desc := "()V" } : Jvm.MethodName) prog_3_method_14_code (2 : Nat) (Option.none : Option Jvm.ClassFile.FieldType)) ∈ lw_all := lw_g (lw_at lw_m2 85 rfl) rfl
theorem q358 : (Jvm.Cond.methodLink "ContactNetworkModel" (127 : Nat) ({ cls := "ContactNetworkModel", name := "plan", desc := "(I)V" } : Jvm.MethodName)) ∈ lw_all := lw_g (lw_at lw_m2 86 rfl) rfl
theorem q360 : (Jvm.Cond.instanceMethod ({ cls := "ContactNetworkModel", name := "plan", desc := "(I)V" } : Jvm.MethodName)) ∈ lw_all := lw_g (lw_at lw_m2 88 rfl) rfl
theorem q361 : (Jvm.Cond.code ({ cls := "ContactNetworkModel", name := "plan", desc := "(I)V" } : Jvm.MethodName) prog_3_method_13_code (4 : Nat) (Option.none : Option Jvm.ClassFile.FieldType)) ∈ lw_all := lw_g (lw_at lw_m2 89 rfl) rfl
theorem q362 : (Jvm.Cond.methodLink "ContactNetworkModel" (113 : Nat) ({ cls := "ContactNetworkModel", name := "lastTime", desc := "(I)I" } : Jvm.MethodName)) ∈ lw_all := lw_g (lw_at lw_m2 90 rfl) rfl
theorem q364 : (Jvm.Cond.instanceMethod ({ cls := "ContactNetworkModel", name := "lastTime", desc := "(I)I" } : Jvm.MethodName)) ∈ lw_all := lw_g (lw_at lw_m2 92 rfl) rfl
theorem q365 : (Jvm.Cond.code ({ cls := "ContactNetworkModel", name := "lastTime", desc := "(I)I" } : Jvm.MethodName) prog_3_method_12_code (3 : Nat) (Option.some Jvm.ClassFile.FieldType.int)) ∈ lw_all := lw_g (lw_at lw_m2 93 rfl) rfl
theorem q366 : (Jvm.Cond.methodLink "ContactNetworkModel" (106 : Nat) ({ cls := "ContactNetworkModel", name := "comesIn", desc := "(III)I" } : Jvm.MethodName)) ∈ lw_all := lw_g (lw_at lw_m2 94 rfl) rfl
theorem q368 : (Jvm.Cond.instanceMethod ({ cls := "ContactNetworkModel", name := "comesIn", desc := "(III)I" } : Jvm.MethodName)) ∈ lw_all := lw_g (lw_at lw_m2 96 rfl) rfl
theorem q369 : (Jvm.Cond.code ({ cls := "ContactNetworkModel", name := "comesIn", desc := "(III)I" } : Jvm.MethodName) prog_3_method_5_code (4 : Nat) (Option.some Jvm.ClassFile.FieldType.int)) ∈ lw_all := lw_g (lw_at lw_m2 97 rfl) rfl
theorem q370 : (Jvm.Cond.methodLink "ContactNetworkModel" (77 : Nat) ({ cls := "ContactNetworkModel", name := "ticks", desc := "(II)I" } : Jvm.MethodName)) ∈ lw_all := lw_g (lw_at lw_m2 98 rfl) rfl
theorem q372 : (Jvm.Cond.instanceMethod ({ cls := "ContactNetworkModel", name := "ticks", desc := "(II)I" } : Jvm.MethodName)) ∈ lw_all := lw_g (lw_at lw_m2 100 rfl) rfl
theorem q373 : (Jvm.Cond.code ({ cls := "ContactNetworkModel", name := "ticks", desc := "(II)I" } : Jvm.MethodName) prog_3_method_4_code (4 : Nat) (Option.some Jvm.ClassFile.FieldType.int)) ∈ lw_all := lw_g (lw_at lw_m2 101 rfl) rfl
theorem q374 : (Jvm.Cond.methodLink "ContactNetworkModel" (120 : Nat) ({ cls := "ContactNetworkModel", name := "lastNode", desc := "(I)I" } : Jvm.MethodName)) ∈ lw_all := lw_g (lw_at lw_m2 102 rfl) rfl
theorem q376 : (Jvm.Cond.instanceMethod ({ cls := "ContactNetworkModel", name := "lastNode", desc := "(I)I" } : Jvm.MethodName)) ∈ lw_all := lw_g (lw_at lw_m2 104 rfl) rfl
theorem q377 : (Jvm.Cond.code ({ cls := "ContactNetworkModel", name := "lastNode", desc := "(I)I" } : Jvm.MethodName) prog_3_method_11_code (2 : Nat) (Option.some Jvm.ClassFile.FieldType.int)) ∈ lw_all := lw_g (lw_at lw_m2 105 rfl) rfl
theorem q378 : (Jvm.Cond.methodLink "ContactNetworkModel" (123 : Nat) ({ cls := "ContactNetworkModel", name := "findBest", desc := "(IIII)Z" } : Jvm.MethodName)) ∈ lw_all := lw_g (lw_at lw_m2 106 rfl) rfl
theorem q380 : (Jvm.Cond.instanceMethod ({ cls := "ContactNetworkModel", name := "findBest", desc := "(IIII)Z" } : Jvm.MethodName)) ∈ lw_all := lw_g (lw_at lw_m2 108 rfl) rfl
theorem q381 : (Jvm.Cond.code ({ cls := "ContactNetworkModel", name := "findBest", desc := "(IIII)Z" } : Jvm.MethodName) prog_3_method_10_code (8 : Nat) (Option.some Jvm.ClassFile.FieldType.boolean)) ∈ lw_all := lw_g (lw_at lw_m2 109 rfl) rfl
theorem q382 : (Jvm.Cond.methodLink "ContactNetworkModel" (98 : Nat) ({ cls := "ContactNetworkModel", name := "isTried", desc := "(II)Z" } : Jvm.MethodName)) ∈ lw_all := lw_g (lw_at lw_m2 110 rfl) rfl
theorem q384 : (Jvm.Cond.instanceMethod ({ cls := "ContactNetworkModel", name := "isTried", desc := "(II)Z" } : Jvm.MethodName)) ∈ lw_all := lw_g (lw_at lw_m2 112 rfl) rfl
theorem q385 : (Jvm.Cond.code ({ cls := "ContactNetworkModel", name := "isTried", desc := "(II)Z" } : Jvm.MethodName) prog_3_method_8_code (4 : Nat) (Option.some Jvm.ClassFile.FieldType.boolean)) ∈ lw_all := lw_g (lw_at lw_m2 113 rfl) rfl
theorem q386 : (Jvm.Cond.methodLink "ContactNetworkModel" (102 : Nat) ({ cls := "ContactNetworkModel", name := "earliest", desc := "(III)I" } : Jvm.MethodName)) ∈ lw_all := lw_g (lw_at lw_m2 114 rfl) rfl
theorem q388 : (Jvm.Cond.instanceMethod ({ cls := "ContactNetworkModel", name := "earliest", desc := "(III)I" } : Jvm.MethodName)) ∈ lw_all := lw_g (lw_at lw_m2 116 rfl) rfl
theorem q389 : (Jvm.Cond.code ({ cls := "ContactNetworkModel", name := "earliest", desc := "(III)I" } : Jvm.MethodName) prog_3_method_7_code (7 : Nat) (Option.some Jvm.ClassFile.FieldType.int)) ∈ lw_all := lw_g (lw_at lw_m2 117 rfl) rfl
theorem q390 : (Jvm.Cond.methodLink "ContactNetworkModel" (85 : Nat) ({ cls := "ContactNetworkModel", name := "isFree", desc := "(III)Z" } : Jvm.MethodName)) ∈ lw_all := lw_g (lw_at lw_m2 118 rfl) rfl
theorem q392 : (Jvm.Cond.instanceMethod ({ cls := "ContactNetworkModel", name := "isFree", desc := "(III)Z" } : Jvm.MethodName)) ∈ lw_all := lw_g (lw_at lw_m2 120 rfl) rfl
theorem q393 : (Jvm.Cond.code ({ cls := "ContactNetworkModel", name := "isFree", desc := "(III)Z" } : Jvm.MethodName) prog_3_method_6_code (6 : Nat) (Option.some Jvm.ClassFile.FieldType.boolean)) ∈ lw_all := lw_g (lw_at lw_m2 121 rfl) rfl
theorem q394 : (Jvm.Cond.methodLink "ContactNetworkModel" (109 : Nat) ({ cls := "ContactNetworkModel", name := "keep", desc := "(II)V" } : Jvm.MethodName)) ∈ lw_all := lw_g (lw_at lw_m2 122 rfl) rfl
theorem q396 : (Jvm.Cond.instanceMethod ({ cls := "ContactNetworkModel", name := "keep", desc := "(II)V" } : Jvm.MethodName)) ∈ lw_all := lw_g (lw_at lw_m2 124 rfl) rfl
theorem q397 : (Jvm.Cond.code ({ cls := "ContactNetworkModel", name := "keep", desc := "(II)V" } : Jvm.MethodName) prog_3_method_9_code (5 : Nat) (Option.none : Option Jvm.ClassFile.FieldType)) ∈ lw_all := lw_g (lw_at lw_m2 125 rfl) rfl
theorem q399 : (Jvm.Cond.instanceMethod ({ cls := "ContactNetworkModel", name := "cancel", desc := "(I)I" } : Jvm.MethodName)) ∈ lw_all := lw_g (lw_at lw_m2 127 rfl) rfl
theorem q400 : (Jvm.Cond.selects "ContactNetworkModel" ({ cls := "ContactNetworkModel", name := "cancel", desc := "(I)I" } : Jvm.MethodName) ({ cls := "ContactNetworkModel", name := "cancel", desc := "(I)I" } : Jvm.MethodName)) ∈ lw_all := lw_g (lw_at lw_m2 128 rfl) rfl
theorem q401 : (Jvm.Cond.code ({ cls := "ContactNetworkModel", name := "cancel", desc := "(I)I" } : Jvm.MethodName) prog_3_method_17_code (6 : Nat) (Option.some Jvm.ClassFile.FieldType.int)) ∈ lw_all := lw_g (lw_at lw_m2 129 rfl) rfl
theorem q402 : (Jvm.Cond.methodLink "ContactNetworkModel" (138 : Nat) ({ cls := "ContactNetworkModel", name := "hitAt", desc := "(II)I" } : Jvm.MethodName)) ∈ lw_all := lw_g (lw_at lw_m2 130 rfl) rfl
theorem q404 : (Jvm.Cond.instanceMethod ({ cls := "ContactNetworkModel", name := "hitAt", desc := "(II)I" } : Jvm.MethodName)) ∈ lw_all := lw_g (lw_at lw_m2 132 rfl) rfl
theorem q405 : (Jvm.Cond.code ({ cls := "ContactNetworkModel", name := "hitAt", desc := "(II)I" } : Jvm.MethodName) prog_3_method_16_code (4 : Nat) (Option.some Jvm.ClassFile.FieldType.int)) ∈ lw_all := lw_g (lw_at lw_m2 133 rfl) rfl
theorem q407 : (Jvm.Cond.instanceMethod ({ cls := "ContactNetworkModel", name := "booked", desc := "(I)I" } : Jvm.MethodName)) ∈ lw_all := lw_g (lw_at lw_m2 135 rfl) rfl
theorem q408 : (Jvm.Cond.selects "ContactNetworkModel" ({ cls := "ContactNetworkModel", name := "booked", desc := "(I)I" } : Jvm.MethodName) ({ cls := "ContactNetworkModel", name := "booked", desc := "(I)I" } : Jvm.MethodName)) ∈ lw_all := lw_g (lw_at lw_m2 136 rfl) rfl
theorem q409 : (Jvm.Cond.code ({ cls := "ContactNetworkModel", name := "booked", desc := "(I)I" } : Jvm.MethodName) prog_3_method_18_code (5 : Nat) (Option.some Jvm.ClassFile.FieldType.int)) ∈ lw_all := lw_g (lw_at lw_m2 137 rfl) rfl
theorem q411 : (Jvm.Cond.instanceMethod ({ cls := "ContactNetworkModel", name := "send", desc := "(III)I" } : Jvm.MethodName)) ∈ lw_all := lw_g (lw_at lw_m2 139 rfl) rfl
theorem q412 : (Jvm.Cond.selects "ContactNetworkModel" ({ cls := "ContactNetworkModel", name := "send", desc := "(III)I" } : Jvm.MethodName) ({ cls := "ContactNetworkModel", name := "send", desc := "(III)I" } : Jvm.MethodName)) ∈ lw_all := lw_g (lw_at lw_m2 140 rfl) rfl
theorem q413 : (Jvm.Cond.code ({ cls := "ContactNetworkModel", name := "send", desc := "(III)I" } : Jvm.MethodName) prog_3_method_20_code (5 : Nat) (Option.some Jvm.ClassFile.FieldType.int)) ∈ lw_all := lw_g (lw_at lw_m2 141 rfl) rfl
theorem q414 : (Jvm.Cond.methodLink "ContactNetworkModel" (141 : Nat) ({ cls := "ContactNetworkModel", name := "badSize", desc := "(I)Z" } : Jvm.MethodName)) ∈ lw_all := lw_g (lw_at lw_m2 142 rfl) rfl
theorem q416 : (Jvm.Cond.instanceMethod ({ cls := "ContactNetworkModel", name := "badSize", desc := "(I)Z" } : Jvm.MethodName)) ∈ lw_all := lw_g (lw_at lw_m2 144 rfl) rfl
theorem q417 : (Jvm.Cond.code ({ cls := "ContactNetworkModel", name := "badSize", desc := "(I)Z" } : Jvm.MethodName) prog_3_method_3_code (2 : Nat) (Option.some Jvm.ClassFile.FieldType.boolean)) ∈ lw_all := lw_g (lw_at lw_m2 145 rfl) rfl
theorem q419 : (Jvm.Cond.instanceMethod ({ cls := "ContactNetworkModel", name := "pass", desc := "(I)I" } : Jvm.MethodName)) ∈ lw_all := lw_g (lw_at lw_m2 147 rfl) rfl
theorem q420 : (Jvm.Cond.selects "ContactNetworkModel" ({ cls := "ContactNetworkModel", name := "pass", desc := "(I)I" } : Jvm.MethodName) ({ cls := "ContactNetworkModel", name := "pass", desc := "(I)I" } : Jvm.MethodName)) ∈ lw_all := lw_g (lw_at lw_m2 148 rfl) rfl
theorem q421 : (Jvm.Cond.code ({ cls := "ContactNetworkModel", name := "pass", desc := "(I)I" } : Jvm.MethodName) prog_3_method_21_code (2 : Nat) (Option.some Jvm.ClassFile.FieldType.int)) ∈ lw_all := lw_g (lw_at lw_m2 149 rfl) rfl
theorem q423 : (Jvm.Cond.instanceMethod ({ cls := "ContactNetworkModel", name := "time", desc := "()I" } : Jvm.MethodName)) ∈ lw_all := lw_g (lw_at lw_m2 151 rfl) rfl
theorem q424 : (Jvm.Cond.selects "ContactNetworkModel" ({ cls := "ContactNetworkModel", name := "time", desc := "()I" } : Jvm.MethodName) ({ cls := "ContactNetworkModel", name := "time", desc := "()I" } : Jvm.MethodName)) ∈ lw_all := lw_g (lw_at lw_m2 152 rfl) rfl
theorem q425 : (Jvm.Cond.code ({ cls := "ContactNetworkModel", name := "time", desc := "()I" } : Jvm.MethodName) prog_3_method_22_code (1 : Nat) (Option.some Jvm.ClassFile.FieldType.int)) ∈ lw_all := lw_g (lw_at lw_m2 153 rfl) rfl
theorem q427 : (Jvm.Cond.instanceMethod ({ cls := "ContactNetworkModel", name := "state", desc := "(I)I" } : Jvm.MethodName)) ∈ lw_all := lw_g (lw_at lw_m2 155 rfl) rfl
theorem q428 : (Jvm.Cond.selects "ContactNetworkModel" ({ cls := "ContactNetworkModel", name := "state", desc := "(I)I" } : Jvm.MethodName) ({ cls := "ContactNetworkModel", name := "state", desc := "(I)I" } : Jvm.MethodName)) ∈ lw_all := lw_g (lw_at lw_m2 156 rfl) rfl
theorem q429 : (Jvm.Cond.code ({ cls := "ContactNetworkModel", name := "state", desc := "(I)I" } : Jvm.MethodName) prog_3_method_23_code (2 : Nat) (Option.some Jvm.ClassFile.FieldType.int)) ∈ lw_all := lw_g (lw_at lw_m2 157 rfl) rfl
theorem q430 : (Jvm.Cond.methodLink "ContactNetworkModel" (144 : Nat) ({ cls := "ContactNetworkModel", name := "badBundle", desc := "(I)Z" } : Jvm.MethodName)) ∈ lw_all := lw_g (lw_at lw_m2 158 rfl) rfl
theorem q432 : (Jvm.Cond.instanceMethod ({ cls := "ContactNetworkModel", name := "badBundle", desc := "(I)Z" } : Jvm.MethodName)) ∈ lw_all := lw_g (lw_at lw_m2 160 rfl) rfl
theorem q433 : (Jvm.Cond.code ({ cls := "ContactNetworkModel", name := "badBundle", desc := "(I)Z" } : Jvm.MethodName) prog_3_method_19_code (2 : Nat) (Option.some Jvm.ClassFile.FieldType.boolean)) ∈ lw_all := lw_g (lw_at lw_m2 161 rfl) rfl
theorem q435 : (Jvm.Cond.instanceMethod ({ cls := "ContactNetworkModel", name := "arrival", desc := "(I)I" } : Jvm.MethodName)) ∈ lw_all := lw_g (lw_at lw_m2 163 rfl) rfl
theorem q436 : (Jvm.Cond.selects "ContactNetworkModel" ({ cls := "ContactNetworkModel", name := "arrival", desc := "(I)I" } : Jvm.MethodName) ({ cls := "ContactNetworkModel", name := "arrival", desc := "(I)I" } : Jvm.MethodName)) ∈ lw_all := lw_g (lw_at lw_m2 164 rfl) rfl
theorem q437 : (Jvm.Cond.code ({ cls := "ContactNetworkModel", name := "arrival", desc := "(I)I" } : Jvm.MethodName) prog_3_method_24_code (2 : Nat) (Option.some Jvm.ClassFile.FieldType.int)) ∈ lw_all := lw_g (lw_at lw_m2 165 rfl) rfl
theorem q439 : (Jvm.Cond.instanceMethod ({ cls := "ContactNetworkModel", name := "hops", desc := "(I)I" } : Jvm.MethodName)) ∈ lw_all := lw_g (lw_at lw_m2 167 rfl) rfl
theorem q440 : (Jvm.Cond.selects "ContactNetworkModel" ({ cls := "ContactNetworkModel", name := "hops", desc := "(I)I" } : Jvm.MethodName) ({ cls := "ContactNetworkModel", name := "hops", desc := "(I)I" } : Jvm.MethodName)) ∈ lw_all := lw_g (lw_at lw_m2 168 rfl) rfl
theorem q441 : (Jvm.Cond.code ({ cls := "ContactNetworkModel", name := "hops", desc := "(I)I" } : Jvm.MethodName) prog_3_method_25_code (2 : Nat) (Option.some Jvm.ClassFile.FieldType.int)) ∈ lw_all := lw_g (lw_at lw_m2 169 rfl) rfl
theorem q443 : (Jvm.Cond.instanceMethod ({ cls := "ContactNetworkModel", name := "hop", desc := "(II)I" } : Jvm.MethodName)) ∈ lw_all := lw_g (lw_at lw_m2 171 rfl) rfl
theorem q444 : (Jvm.Cond.selects "ContactNetworkModel" ({ cls := "ContactNetworkModel", name := "hop", desc := "(II)I" } : Jvm.MethodName) ({ cls := "ContactNetworkModel", name := "hop", desc := "(II)I" } : Jvm.MethodName)) ∈ lw_all := lw_g (lw_at lw_m2 172 rfl) rfl
theorem q445 : (Jvm.Cond.code ({ cls := "ContactNetworkModel", name := "hop", desc := "(II)I" } : Jvm.MethodName) prog_3_method_26_code (3 : Nat) (Option.some Jvm.ClassFile.FieldType.int)) ∈ lw_all := lw_g (lw_at lw_m2 173 rfl) rfl
theorem q447 : (Jvm.Cond.instanceMethod ({ cls := "ContactNetworkModel", name := "place", desc := "(I)I" } : Jvm.MethodName)) ∈ lw_all := lw_g (lw_at lw_m2 175 rfl) rfl
theorem q448 : (Jvm.Cond.selects "ContactNetworkModel" ({ cls := "ContactNetworkModel", name := "place", desc := "(I)I" } : Jvm.MethodName) ({ cls := "ContactNetworkModel", name := "place", desc := "(I)I" } : Jvm.MethodName)) ∈ lw_all := lw_g (lw_at lw_m2 176 rfl) rfl
theorem q449 : (Jvm.Cond.code ({ cls := "ContactNetworkModel", name := "place", desc := "(I)I" } : Jvm.MethodName) prog_3_method_27_code (4 : Nat) (Option.some Jvm.ClassFile.FieldType.int)) ∈ lw_all := lw_g (lw_at lw_m2 177 rfl) rfl
theorem q451 : (Jvm.Cond.instanceMethod ({ cls := "ContactNetworkModel", name := "quote", desc := "(II)I" } : Jvm.MethodName)) ∈ lw_all := lw_g (lw_at lw_m2 179 rfl) rfl
theorem q452 : (Jvm.Cond.selects "ContactNetworkModel" ({ cls := "ContactNetworkModel", name := "quote", desc := "(II)I" } : Jvm.MethodName) ({ cls := "ContactNetworkModel", name := "quote", desc := "(II)I" } : Jvm.MethodName)) ∈ lw_all := lw_g (lw_at lw_m2 180 rfl) rfl
theorem q453 : (Jvm.Cond.code ({ cls := "ContactNetworkModel", name := "quote", desc := "(II)I" } : Jvm.MethodName) prog_3_method_28_code (3 : Nat) (Option.some Jvm.ClassFile.FieldType.int)) ∈ lw_all := lw_g (lw_at lw_m2 181 rfl) rfl
theorem q455 : (Jvm.Cond.instanceMethod ({ cls := "ContactNetworkModel", name := "reach", desc := "(III)I" } : Jvm.MethodName)) ∈ lw_all := lw_g (lw_at lw_m2 183 rfl) rfl
theorem q456 : (Jvm.Cond.selects "ContactNetworkModel" ({ cls := "ContactNetworkModel", name := "reach", desc := "(III)I" } : Jvm.MethodName) ({ cls := "ContactNetworkModel", name := "reach", desc := "(III)I" } : Jvm.MethodName)) ∈ lw_all := lw_g (lw_at lw_m2 184 rfl) rfl
theorem q457 : (Jvm.Cond.code ({ cls := "ContactNetworkModel", name := "reach", desc := "(III)I" } : Jvm.MethodName) prog_3_method_29_code (6 : Nat) (Option.some Jvm.ClassFile.FieldType.int)) ∈ lw_all := lw_g (lw_at lw_m2 185 rfl) rfl
theorem q459 : (Jvm.Cond.instanceMethod ({ cls := "ContactNetworkModel", name := "latest", desc := "(III)I" } : Jvm.MethodName)) ∈ lw_all := lw_g (lw_at lw_m2 187 rfl) rfl
theorem q460 : (Jvm.Cond.selects "ContactNetworkModel" ({ cls := "ContactNetworkModel", name := "latest", desc := "(III)I" } : Jvm.MethodName) ({ cls := "ContactNetworkModel", name := "latest", desc := "(III)I" } : Jvm.MethodName)) ∈ lw_all := lw_g (lw_at lw_m2 188 rfl) rfl
theorem q461 : (Jvm.Cond.code ({ cls := "ContactNetworkModel", name := "latest", desc := "(III)I" } : Jvm.MethodName) prog_3_method_30_code (5 : Nat) (Option.some Jvm.ClassFile.FieldType.int)) ∈ lw_all := lw_g (lw_at lw_m2 189 rfl) rfl
theorem in_X1 : ∀ w ∈ wsX10, w ∈ lw_all := lw_in wsX10 [291, 293, 295, 297, 299, 301, 303, 305, 307, 309, 311, 313, 315, 317, 319, 321, 323, 325, 327, 329, 331, 333, 335, 337, 339, 341, 343] (by decide +kernel) (by decide +kernel)
abbrev vwCl : List vw_C := [(RX0, TX0, 25), (RX1, TX1, 27)]
end
section
/-! THE MACHINE, ONCE FOR ALL METHODS: ints as whole numbers (zI), a class's state as a function X (field, place) -> whole number,
    a one-instruction step st_ over (pc, locals, stack, X), its run wp_, and what it is to be closed under it (Clo_). Pure: no machine here. -/
def zI (a : Int) : Int32 := Int32.ofInt a
abbrev zR (a : Int) : Prop := -2147483648 ≤ a ∧ a ≤ 2147483647
theorem zI_toInt {a : Int} (h : zR a) : (zI a).toInt = a := Int32.toInt_ofInt_of_le (by have := h.1; omega) (by have := h.2; omega)
theorem zI_of (x : Int32) : zI x.toInt = x := Int32.ofInt_toInt x
theorem zR_of (x : Int32) : zR x.toInt := ⟨by have := Int32.le_toInt x; omega, by have := Int32.toInt_lt x; omega⟩
theorem zI_add (a b : Int) : zI a + zI b = zI (a + b) := (Int32.ofInt_add a b).symm
theorem zI_sub (a b : Int) : zI a - zI b = zI (a - b) := (Int32.ofInt_sub a b).symm
theorem zI_mul (a b : Int) : zI a * zI b = zI (a * b) := (Int32.ofInt_mul a b).symm
theorem zI_lt {a b : Int} (ha : zR a) (hb : zR b) : zI a < zI b ↔ a < b := by rw [Int32.lt_iff_toInt_lt, zI_toInt ha, zI_toInt hb]
theorem zI_le {a b : Int} (ha : zR a) (hb : zR b) : zI a ≤ zI b ↔ a ≤ b := by rw [Int32.le_iff_toInt_le, zI_toInt ha, zI_toInt hb]
theorem zI_eq {a b : Int} (ha : zR a) (hb : zR b) : zI a = zI b ↔ a = b := by rw [← Int32.toInt_inj, zI_toInt ha, zI_toInt hb]
theorem zI_0 : zI 0 = 0 := by decide
theorem zI_1 : zI 1 = 1 := by decide
theorem zI_div {a b : Int} (ha : zR a) (hb : zR b) (h0 : 0 ≤ a) (h1 : 0 < b) : zI a / zI b = zI (a / b) := by
  have hle : a / b ≤ a := Int.ediv_le_self b h0
  have hge : 0 ≤ a / b := Int.ediv_nonneg h0 (by omega)
  apply Int32.toInt_inj.mp
  rw [Int32.toInt_div_of_ne_right, zI_toInt ha, zI_toInt hb, zI_toInt ⟨by omega, by have := ha.2; omega⟩, Int.tdiv_eq_ediv_of_nonneg h0]
  intro h
  have h2 := congrArg Int32.toInt h
  rw [zI_toInt hb] at h2
  have h3 : (-1 : Int32).toInt = -1 := by decide
  omega
theorem zI_rem {a b : Int} (ha : zR a) (hb : zR b) (h0 : 0 ≤ a) (h1 : 0 < b) : zI a - zI a / zI b * zI b = zI (a % b) := by
  rw [zI_div ha hb h0 h1, zI_mul, zI_sub, Int.emod_def, Int.mul_comm]
theorem zI_in {a : Int} {n : Nat} (hr : zR a) (h0 : 0 ≤ a) (h1 : a < n) : vp_in (zI a) n := by
  rw [vp_in_iff, zI_toInt hr]
  exact ⟨h0, h1⟩
theorem zI_clamp {a : Int} (hr : zR a) : (zI a).toNatClampNeg = a.toNat := by
  show (zI a).toInt.toNat = a.toNat
  rw [zI_toInt hr]
theorem zI_byte {n : Int} (h1 : -128 ≤ n) (h2 : n < 128) : (Int8.ofInt n).toInt32 = zI n := by
  apply Int32.toInt_inj.mp
  rw [Int8.toInt_toInt32, Int8.toInt_ofInt_of_le (by omega) (by omega), zI_toInt ⟨by omega, by omega⟩]
theorem zI_short {n : Int} (h1 : -32768 ≤ n) (h2 : n < 32768) : (Int16.ofInt n).toInt32 = zI n := by
  apply Int32.toInt_inj.mp
  rw [Int16.toInt_toInt32, Int16.toInt_ofInt_of_le (by omega) (by omega), zI_toInt ⟨by omega, by omega⟩]
def zShl (x y : Int) : Int := (zI x <<< (zI y &&& 31)).toInt
def zShr (x y : Int) : Int := (zI x >>> (zI y &&& 31)).toInt
def zAnd (x y : Int) : Int := (zI x &&& zI y).toInt
def zOr (x y : Int) : Int := (zI x ||| zI y).toInt

abbrev St_ : Type := Nat → Int → Int
abbrev Vl_ : Type := Int ⊕ Nat
abbrev Lo_ : Type := List (Option Vl_)
/-- an instruction, the pc behind it, its jump's pc -/
abbrev Ent_ : Type := Instr × Nat × Nat
/-- a call: number of ints, static?, kind of answer (0 none, 1 int, 2 boolean), what it asks, what it says -/
abbrev Cs_ : Type := Nat × Bool × Nat × (List Int → St_ → Prop) × (List Int → St_ → Int → St_ → Prop)
/-- a class: number of fields, a field's kind (none: an int; some (boolean?, length): an array), fields by entry, constants by entry -/
abbrev Ly_ : Type := Nat × (Nat → Option (Bool × Nat)) × List (Nat × Nat) × List (Nat × Int)
/-- a method: its class, its calls by entry, its kind of answer, its code -/
abbrev Mt_ : Type := Ly_ × List (Nat × Cs_) × Nat × List (Nat × Ent_)

def up_ (X : St_) (f : Nat) (i v : Int) : St_ := fun g j => if g = f ∧ j = i then v else X g j
def lk_ {α : Type} : List (Nat × α) → Nat → Option α
  | [], _ => none
  | q :: r, k => bif Nat.beq q.1 k then some q.2 else lk_ r k
def lg_ : Lo_ → Nat → Option Vl_
  | [], _ => none
  | v :: _, 0 => v
  | _ :: r, i + 1 => lg_ r i
def lp_ : Nat → Vl_ → Lo_ → Lo_
  | 0, v, [] => [some v]
  | 0, v, _ :: r => some v :: r
  | i + 1, v, [] => none :: lp_ i v []
  | i + 1, v, a :: r => a :: lp_ i v r
def pa_ : Nat → List Vl_ → List Int → Option (List Int × List Vl_)
  | 0, st, as => some (as, st)
  | n + 1, .inl x :: st, as => pa_ n st (x :: as)
  | _ + 1, _, _ => none
def ldi_ (lv : Lo_) (j : Nat) (k : Int → Prop) : Prop := match lg_ lv j with
  | some (.inl z) => k z
  | _ => False
def ldr_ (lv : Lo_) (j : Nat) (k : Nat → Prop) : Prop := match lg_ lv j with
  | some (.inr t) => k t
  | _ => False
def s1_ (st : List Vl_) (k : Int → List Vl_ → Prop) : Prop := match st with
  | .inl x :: r => k x r
  | _ => False
def s2_ (st : List Vl_) (k : Int → Int → List Vl_ → Prop) : Prop := match st with
  | .inl y :: .inl x :: r => k x y r
  | _ => False
def cmp_ (c : ClassFile.Cond) (x y : Int) (a b : Prop) : Prop := match c with
  | .eq => (x = y → a) ∧ (¬ x = y → b)
  | .ne => (¬ x = y → a) ∧ (x = y → b)
  | .lt => (x < y → a) ∧ (y ≤ x → b)
  | .ge => (y ≤ x → a) ∧ (x < y → b)
  | .gt => (y < x → a) ∧ (x ≤ y → b)
  | .le => (x ≤ y → a) ∧ (y < x → b)
def call_ (cs : Cs_) (k : Lo_ → List Vl_ → St_ → Prop) (as : List Int) (lv : Lo_) (r : List Vl_) (X : St_) : Prop :=
  bif Nat.ble r.length 8 then cs.2.2.2.1 as X ∧ ∀ (z : Int) (Y : St_), cs.2.2.2.2 as X z Y → k lv (bif Nat.beq cs.2.2.1 0 then r else .inl z :: r) Y else False
def gf_ (L : Ly_) (j : Nat) (st : List Vl_) (k : Nat → List Vl_ → Prop) : Prop := match st with
  | .inr t :: r => bif Nat.beq t L.1 then (match lk_ L.2.2.1 j with
    | some f => k f r
    | none => False) else False
  | _ => False
def al_ (L : Ly_) (b : Bool) (st : List Vl_) (k : Nat → Int → List Vl_ → Prop) : Prop := match st with
  | .inl i :: .inr f :: r => match L.2.1 f with
    | some (b', n) => bif b' == b then (0 ≤ i ∧ i < (n : Int) ∧ k f i r) else False
    | none => False
  | _ => False
def as_ (L : Ly_) (b : Bool) (st : List Vl_) (k : Nat → Int → Int → List Vl_ → Prop) : Prop := match st with
  | .inl v :: .inl i :: .inr f :: r => match L.2.1 f with
    | some (b', n) => bif b' == b then (0 ≤ i ∧ i < (n : Int) ∧ k f i v r) else False
    | none => False
  | _ => False
def cv_ (C : List (Nat × Cs_)) (L : Ly_) (j : Nat) (st : List Vl_) (k : Cs_ → List Int → List Vl_ → Prop) : Prop := match lk_ C j with
  | some cs => bif cs.2.1 then False else (match pa_ cs.1 st [] with
    | some (as, .inr t :: r) => bif Nat.beq t L.1 then k cs as r else False
    | _ => False)
  | none => False
def cst_ (C : List (Nat × Cs_)) (j : Nat) (st : List Vl_) (k : Cs_ → List Int → List Vl_ → Prop) : Prop := match lk_ C j with
  | some cs => bif cs.2.1 then (match pa_ cs.1 st [] with
    | some (as, r) => k cs as r
    | none => False) else False
  | none => False
def st_ (M : Mt_) (Rt : Int → St_ → Prop) (k : Nat → Lo_ → List Vl_ → St_ → Prop) (q : Ent_) (lv : Lo_) (st : List Vl_) (X : St_) : Prop :=
  match q.1 with
  | .iconst n => k q.2.1 lv (.inl n :: st) X
  | .bipush n => k q.2.1 lv (.inl n :: st) X
  | .sipush n => k q.2.1 lv (.inl n :: st) X
  | .ldc j => (match lk_ M.1.2.2.2 j with
    | some n => k q.2.1 lv (.inl n :: st) X
    | none => False)
  | .iload j => ldi_ lv j fun z => k q.2.1 lv (.inl z :: st) X
  | .iload_n j => ldi_ lv j.val fun z => k q.2.1 lv (.inl z :: st) X
  | .aload_n j => ldr_ lv j.val fun t => k q.2.1 lv (.inr t :: st) X
  | .istore j => s1_ st fun z r => k q.2.1 (lp_ j (.inl z) lv) r X
  | .istore_n j => s1_ st fun z r => k q.2.1 (lp_ j.val (.inl z) lv) r X
  | .iinc j c => ldi_ lv j fun z => zR (z + c) ∧ k q.2.1 (lp_ j (.inl (z + c)) lv) st X
  | .iadd => s2_ st fun x y r => zR (x + y) ∧ k q.2.1 lv (.inl (x + y) :: r) X
  | .isub => s2_ st fun x y r => zR (x - y) ∧ k q.2.1 lv (.inl (x - y) :: r) X
  | .imul => s2_ st fun x y r => zR (x * y) ∧ k q.2.1 lv (.inl (x * y) :: r) X
  | .idiv => s2_ st fun x y r => 0 ≤ x ∧ 0 < y ∧ k q.2.1 lv (.inl (x / y) :: r) X
  | .irem => s2_ st fun x y r => 0 ≤ x ∧ 0 < y ∧ k q.2.1 lv (.inl (x % y) :: r) X
  | .ishl => s2_ st fun x y r => k q.2.1 lv (.inl (zShl x y) :: r) X
  | .ishr => s2_ st fun x y r => k q.2.1 lv (.inl (zShr x y) :: r) X
  | .iand => s2_ st fun x y r => k q.2.1 lv (.inl (zAnd x y) :: r) X
  | .ior => s2_ st fun x y r => k q.2.1 lv (.inl (zOr x y) :: r) X
  | .dup => (match st with
    | v :: r => k q.2.1 lv (v :: v :: r) X
    | _ => False)
  | .dup2 => (match st with
    | v :: w :: r => k q.2.1 lv (v :: w :: v :: w :: r) X
    | _ => False)
  | .getfield j => gf_ M.1 j st fun f r => (match M.1.2.1 f with
    | none => k q.2.1 lv (.inl (X f 0) :: r) X
    | some _ => k q.2.1 lv (.inr f :: r) X)
  | .putfield j => s1_ st fun v r => gf_ M.1 j r fun f r => (match M.1.2.1 f with
    | none => k q.2.1 lv r (up_ X f 0 v)
    | some _ => False)
  | .iaload => al_ M.1 false st fun f i r => k q.2.1 lv (.inl (X f i) :: r) X
  | .baload => al_ M.1 true st fun f i r => k q.2.1 lv (.inl (X f i) :: r) X
  | .iastore => as_ M.1 false st fun f i v r => k q.2.1 lv r (up_ X f i v)
  | .bastore => as_ M.1 true st fun f i v r => (v = 0 ∨ v = 1) ∧ k q.2.1 lv r (up_ X f i v)
  | .if_icmp c _ => s2_ st fun x y r => cmp_ c x y (k q.2.2 lv r X) (k q.2.1 lv r X)
  | .ifCond c _ => s1_ st fun x r => cmp_ c x 0 (k q.2.2 lv r X) (k q.2.1 lv r X)
  | .goto _ => k q.2.2 lv st X
  | .invokevirtual j => cv_ M.2.1 M.1 j st fun cs as r => call_ cs (k q.2.1) as lv r X
  | .invokestatic j => cst_ M.2.1 j st fun cs as r => call_ cs (k q.2.1) as lv r X
  | .ireturn => s1_ st fun v r => (match r, M.2.2.1 with
    | [], 1 => Rt v X
    | [], 2 => (v = 0 ∨ v = 1) ∧ Rt v X
    | _, _ => False)
  | .return_ => (match st, M.2.2.1 with
    | [], 0 => Rt 0 X
    | _, _ => False)
  | _ => False
/-- n instructions from pc on, but a pc of 'cuts' ends it (with so many locals kept) -/
def wp_ (M : Mt_) (Rt : Int → St_ → Prop) (cuts : List (Nat × Nat)) (G : Nat → Lo_ → List Vl_ → St_ → Prop) : Nat → Nat → Lo_ → List Vl_ → St_ → Prop
  | 0, pc, lv, st, X => G pc lv st X
  | n + 1, pc, lv, st, X => match lk_ M.2.2.2 pc with
    | none => False
    | some q => st_ M Rt (fun pc' lv' st' X' => match lk_ cuts pc' with
      | some m => G pc' (lv'.take m) st' X'
      | none => wp_ M Rt cuts G n pc' lv' st' X') q lv st X
def Clo_ (M : Mt_) (Rt : Int → St_ → Prop) (G : Nat → Lo_ → List Vl_ → St_ → Prop) : Prop :=
  (∀ k : Nat → Lo_ → List Vl_ → St_ → Prop, (∀ pc lv st X, k pc lv st X → G pc lv st X) → ∀ pc q lv st X, lk_ M.2.2.2 pc = some q → st_ M Rt k q lv st X → G pc lv st X) ∧
  ∀ pc lv st X n, G pc (lv.take n) st X → G pc lv st X
theorem run_ {M : Mt_} {Rt : Int → St_ → Prop} {G : Nat → Lo_ → List Vl_ → St_ → Prop} (hG : Clo_ M Rt G) (cuts : List (Nat × Nat)) : ∀ (n pc : Nat) (lv : Lo_) (st : List Vl_) (X : St_), wp_ M Rt cuts G n pc lv st X → G pc lv st X := by
  intro n
  induction n with
  | zero => intro pc lv st X h; exact h
  | succ n ih =>
    intro pc lv st X h
    unfold wp_ at h
    split at h
    · exact h.elim
    · rename_i q hq
      refine hG.1 _ ?_ pc q lv st X hq h
      intro pc' lv' st' X' h'
      split at h'
      · exact hG.2 _ _ _ _ _ h'
      · exact ih _ _ _ _ h'
end
section
/-! THE STEP IS SOUND: what st_ says holds of the machine (over the kit's rows). -/
def lenI : Instr → Nat
  | .iconst _ | .iload_n _ | .aload_n _ | .istore_n _ | .iadd | .isub | .imul | .idiv | .irem | .ishl | .ishr | .iand | .ior | .dup | .dup2 | .iaload | .baload | .iastore | .bastore | .ireturn | .return_ => 1
  | .bipush _ | .iload _ | .istore _ | .ldc _ => 2
  | _ => 3
def okE_ (cc : ByteArray) (nL : Nat) (q : Nat × Ent_) : Bool :=
  decide (decode cc q.1 = .ok (q.2.1, lenI q.2.1)) && Nat.beq q.2.2.1 (q.1 + lenI q.2.1) && (match q.2.1 with
  | .iconst n => decide (zR n)
  | .bipush n => decide (-128 ≤ n ∧ n < 128)
  | .sipush n => decide (-32768 ≤ n ∧ n < 32768)
  | .istore j => Nat.blt j nL
  | .istore_n j => Nat.blt j.val nL
  | .iinc j _ => Nat.blt j nL
  | .goto o => decide ((q.1 : Int) + o = (q.2.2.2 : Int))
  | .if_icmp _ o => decide ((q.1 : Int) + o = (q.2.2.2 : Int))
  | .ifCond _ o => decide ((q.1 : Int) + o = (q.2.2.2 : Int))
  | _ => true)
theorem lk_mem {α : Type} : ∀ {l : List (Nat × α)} {k : Nat} {v : α}, lk_ l k = some v → (k, v) ∈ l
  | [], k, v, h => by simp [lk_] at h
  | q :: r, k, v, h => by
    unfold lk_ at h
    cases hb : Nat.beq q.1 k with
    | true =>
      rw [hb] at h
      have e : q.1 = k := Nat.eq_of_beq_eq_true hb
      have e2 : q.2 = v := by simpa using h
      have e3 : q = (k, v) := by rw [← e, ← e2]
      rw [e3]
      exact List.mem_cons_self
    | false =>
      rw [hb] at h
      exact List.mem_cons_of_mem _ (lk_mem h)
theorem lg_take : ∀ (lv : Lo_) (n i : Nat) (v : Vl_), lg_ (lv.take n) i = some v → lg_ lv i = some v
  | [], n, i, v, h => by simp [lg_] at h
  | a :: r, 0, i, v, h => by simp [lg_] at h
  | a :: r, n + 1, 0, v, h => by simpa [lg_] using h
  | a :: r, n + 1, i + 1, v, h => by
    simp only [List.take_succ_cons, lg_] at h ⊢
    exact lg_take r n i v h
theorem lg_lp_self : ∀ (i : Nat) (v : Vl_) (lv : Lo_), lg_ (lp_ i v lv) i = some v
  | 0, v, [] => by simp [lp_, lg_]
  | 0, v, a :: r => by simp [lp_, lg_]
  | i + 1, v, [] => by simp only [lp_, lg_]; exact lg_lp_self i v []
  | i + 1, v, a :: r => by simp only [lp_, lg_]; exact lg_lp_self i v r
theorem lg_lp_ne : ∀ (i : Nat) (v : Vl_) (lv : Lo_) (j : Nat), j ≠ i → lg_ (lp_ i v lv) j = lg_ lv j
  | 0, v, [], 0, h => absurd rfl h
  | 0, v, a :: r, 0, h => absurd rfl h
  | 0, v, [], j + 1, h => by simp [lp_, lg_]
  | 0, v, a :: r, j + 1, h => by simp [lp_, lg_]
  | i + 1, v, [], 0, h => by simp [lp_, lg_]
  | i + 1, v, [], j + 1, h => by
    simp only [lp_, lg_]
    rw [lg_lp_ne i v [] j (by omega)]
    cases j <;> simp [lg_]
  | i + 1, v, a :: r, 0, h => by simp [lp_, lg_]
  | i + 1, v, a :: r, j + 1, h => by
    simp only [lp_, lg_]
    exact lg_lp_ne i v r j (by omega)
def vl_ (adr : Nat → Nat) : Vl_ → Value
  | .inl z => .int (zI z)
  | .inr k => .ref (adr k)
def rgV_ : Vl_ → Prop
  | .inl z => zR z
  | .inr _ => True
def rgL_ (lv : Lo_) : Prop := ∀ i v, lg_ lv i = some v → rgV_ v
def rgS_ (st : List Vl_) : Prop := ∀ v ∈ st, rgV_ v
def rgX_ (X : St_) : Prop := ∀ f i, zR (X f i)
theorem rgS_cons {v : Vl_} {st : List Vl_} (hv : rgV_ v) (h : rgS_ st) : rgS_ (v :: st) := by
  intro w hw
  rcases List.mem_cons.mp hw with e | e
  · rw [e]; exact hv
  · exact h w e
theorem rgS_tail {v : Vl_} {st : List Vl_} (h : rgS_ (v :: st)) : rgS_ st := fun w hw => h w (List.mem_cons_of_mem _ hw)
theorem rgS_head {v : Vl_} {st : List Vl_} (h : rgS_ (v :: st)) : rgV_ v := h v List.mem_cons_self
theorem rgL_lp {lv : Lo_} {i : Nat} {v : Vl_} (h : rgL_ lv) (hv : rgV_ v) : rgL_ (lp_ i v lv) := by
  intro j w hw
  by_cases e : j = i
  · subst e
    rw [lg_lp_self] at hw
    cases hw
    exact hv
  · rw [lg_lp_ne _ _ _ _ e] at hw
    exact h j w hw
theorem rgX_up {X : St_} {f : Nat} {i v : Int} (h : rgX_ X) (hv : zR v) : rgX_ (up_ X f i v) := by
  intro g j
  unfold up_
  split
  · exact hv
  · exact h g j
def Lh_ (adr : Nat → Nat) (ls : Array Slot) (nL : Nat) (lv : Lo_) : Prop := ls.size = nL ∧ lv_wf ls ∧ ∀ i v, lg_ lv i = some v → ls[i]? = some (.val (vl_ adr v))
def lvl_ (adr : Nat → Nat) (lv : Lo_) : List (Nat × Value) := (List.range lv.length).filterMap fun i => (lg_ lv i).map fun v => (i, vl_ adr v)
theorem lg_len : ∀ (lv : Lo_) (i : Nat) (v : Vl_), lg_ lv i = some v → i < lv.length
  | [], i, v, h => by simp [lg_] at h
  | a :: r, 0, v, h => by simp
  | a :: r, i + 1, v, h => by
    simp only [lg_] at h
    have := lg_len r i v h
    simp only [List.length_cons]
    omega
theorem lvl_mem {adr : Nat → Nat} {lv : Lo_} {q : Nat × Value} : q ∈ lvl_ adr lv ↔ ∃ v, lg_ lv q.1 = some v ∧ q.2 = vl_ adr v := by
  unfold lvl_
  rw [List.mem_filterMap]
  constructor
  · rintro ⟨i, -, hi⟩
    cases hv : lg_ lv i with
    | none => rw [hv] at hi; simp at hi
    | some v =>
      rw [hv] at hi
      simp only [Option.map_some, Option.some.injEq] at hi
      subst hi
      exact ⟨v, hv, rfl⟩
  · rintro ⟨v, hv, he⟩
    refine ⟨q.1, List.mem_range.mpr (lg_len _ _ _ hv), ?_⟩
    rw [hv, Option.map_some, ← he]
theorem Lh_.has {adr : Nat → Nat} {ls : Array Slot} {nL : Nat} {lv : Lo_} (h : Lh_ adr ls nL lv) : lv_has ls nL (lvl_ adr lv) := by
  refine ⟨h.1, h.2.1, fun q hq => ?_⟩
  obtain ⟨v, hv, he⟩ := lvl_mem.mp hq
  rw [he]
  exact h.2.2 q.1 v hv
theorem vl_cat (adr : Nat → Nat) (v : Vl_) : (vl_ adr v).category = 1 := by
  cases v <;> rfl
theorem Lh_.put {adr : Nat → Nat} {ls' : Array Slot} {nL i : Nat} {lv : Lo_} {v : Vl_} (h : lv_has ls' nL ((i, vl_ adr v) :: (lvl_ adr lv).filter (fun q => !(q.1 == i) && !(q.1 + 1 == i && q.2.category == 2)))) : Lh_ adr ls' nL (lp_ i v lv) := by
  refine ⟨h.1, h.2.1, fun j w hw => ?_⟩
  by_cases e : j = i
  · subst e
    rw [lg_lp_self] at hw
    cases hw
    exact h.2.2 (j, vl_ adr v) List.mem_cons_self
  · rw [lg_lp_ne _ _ _ _ e] at hw
    refine h.2.2 (j, vl_ adr w) (List.mem_cons_of_mem _ (List.mem_filter.mpr ⟨lvl_mem.mpr ⟨w, hw, rfl⟩, ?_⟩))
    have h1 : (vl_ adr w).category = 1 := vl_cat adr w
    simp [e, h1]
def fs_ (adr : Nat → Nat) (L : Ly_) (X : St_) : List Value := (List.range L.1).map fun k => match L.2.1 k with
  | none => .int (zI (X k 0))
  | some _ => .ref (adr k)
def ac_ (dd : ClassId × ClassId) (adr : Nat → Nat) (L : Ly_) (X : St_) (k : Nat) : Nat × va_E := (adr k, .inl (match L.2.1 k with
  | some (b, n) => (bif b then dd.2 else dd.1, n, .inl fun i => zI (X k i))
  | none => (dd.1, 0, .inl fun i => zI (X k i))))
def ar_ (L : Ly_) : List Nat := (List.range L.1).filter fun k => (L.2.1 k).isSome
def wd_ (dd : ClassId × ClassId) (adr : Nat → Nat) (ci : Nat) (L : Ly_) (X : St_) : va_W := (adr L.1, .inr (ci, fs_ adr L X)) :: (ar_ L).map (ac_ dd adr L X)
def Ap_ (L : Ly_) (adr : Nat → Nat) : Prop := (∀ i j, i ∈ ar_ L → j ∈ ar_ L → adr i = adr j → i = j) ∧ ∀ i, i ∈ ar_ L → adr i ≠ adr L.1
def Af_ (L : Ly_) (adr : Nat → Nat) (sz : Nat) : Nat → Prop := fun q => (q = adr L.1 ∨ ∃ k, k ∈ ar_ L ∧ q = adr k) ∨ sz ≤ q
theorem ar_nd (L : Ly_) : (ar_ L).Nodup := List.Nodup.sublist (List.filter_sublist) List.nodup_range
theorem ar_mem {L : Ly_} {k : Nat} : k ∈ ar_ L ↔ k < L.1 ∧ (L.2.1 k).isSome = true := by
  unfold ar_
  rw [List.mem_filter, List.mem_range]
theorem wd_D {dd : ClassId × ClassId} {adr : Nat → Nat} {ci : Nat} {L : Ly_} {sz : Nat} (h : Ap_ L adr) (X : St_) : va_D (Af_ L adr sz) (wd_ dd adr ci L X) := by
  have key : ∀ (i : Nat) (q : Nat × va_E), (wd_ dd adr ci L X)[i]? = some q → (i = 0 ∧ q.1 = adr L.1) ∨ ∃ j k, i = j + 1 ∧ (ar_ L)[j]? = some k ∧ q.1 = adr k := by
    intro i q hq
    cases i with
    | zero =>
      left
      unfold wd_ at hq
      simp only [List.getElem?_cons_zero, Option.some.injEq] at hq
      exact ⟨rfl, by rw [← hq]⟩
    | succ j =>
      right
      unfold wd_ at hq
      rw [List.getElem?_cons_succ, List.getElem?_map] at hq
      cases hk : (ar_ L)[j]? with
      | none => rw [hk] at hq; simp at hq
      | some k =>
        rw [hk] at hq
        simp only [Option.map_some, Option.some.injEq] at hq
        exact ⟨j, k, rfl, hk, by rw [← hq]; rfl⟩
  refine ⟨fun i j x y hx hy hxy => ?_, fun i q hq => ?_⟩
  · rcases key i x hx with ⟨a1, a2⟩ | ⟨j1, k1, a1, a2, a3⟩ <;> rcases key j y hy with ⟨b1, b2⟩ | ⟨j2, k2, b1, b2, b3⟩
    · omega
    · exact absurd (b3.symm.trans (hxy.symm.trans a2)) (h.2 k2 (List.mem_of_getElem? b2))
    · exact absurd (a3.symm.trans (hxy.trans b2)) (h.2 k1 (List.mem_of_getElem? a2))
    · have e := h.1 k1 k2 (List.mem_of_getElem? a2) (List.mem_of_getElem? b2) (a3.symm.trans (hxy.trans b3))
      subst e
      obtain ⟨l1, e1⟩ := List.getElem?_eq_some_iff.mp a2
      have := (List.getElem?_inj l1 (ar_nd L)).mp (a2.trans b2.symm)
      omega
  · rcases key i q hq with ⟨-, a2⟩ | ⟨j1, k1, -, a2, a3⟩
    · rw [a2]; exact Or.inl (Or.inl rfl)
    · rw [a3]; exact Or.inl (Or.inr ⟨k1, List.mem_of_getElem? a2, rfl⟩)
theorem wd_arr {dd : ClassId × ClassId} {adr : Nat → Nat} {ci : Nat} {L : Ly_} {k n : Nat} {b : Bool} (hk : k < L.1) (h : L.2.1 k = some (b, n)) : ∃ j, (∀ X : St_, (wd_ dd adr ci L X)[j]? = some (adr k, .inl (bif b then dd.2 else dd.1, n, .inl fun i => zI (X k i)))) ∧
    ∀ (X : St_) (i v : Int) (g : Nat → Int32), (∀ j : Nat, g j = zI (up_ X k i v k j)) → (wd_ dd adr ci L X).set j (adr k, .inl (bif b then dd.2 else dd.1, n, .inl g)) = wd_ dd adr ci L (up_ X k i v) := by
  have hm : k ∈ ar_ L := ar_mem.mpr ⟨hk, by rw [h]; rfl⟩
  obtain ⟨j, hj⟩ := List.getElem?_of_mem hm
  refine ⟨j + 1, fun X => ?_, fun X i v g hg => ?_⟩
  · unfold wd_
    rw [List.getElem?_cons_succ, List.getElem?_map, hj, Option.map_some]
    unfold ac_
    rw [h]
  · unfold wd_
    rw [List.set_cons_succ]
    congr 1
    · congr 3
      unfold fs_
      apply List.map_congr_left
      intro q hq
      by_cases e : q = k
      · rw [e, h]
      · have : up_ X k i v q 0 = X q 0 := by unfold up_; rw [if_neg (fun z => e z.1)]
        rw [this]
    · apply List.ext_getElem?
      intro q
      rw [List.getElem?_map]
      obtain ⟨lj, ej⟩ := List.getElem?_eq_some_iff.mp hj
      by_cases e : q = j
      · subst e
        rw [List.getElem?_set_self (by rw [List.length_map]; exact lj), hj, Option.map_some]
        unfold ac_
        rw [h]
        have hgf : g = fun i_1 : Nat => zI (up_ X k i v k (i_1 : Int)) := funext hg
        rw [hgf]
      · rw [List.getElem?_set_ne (fun z => e z.symm), List.getElem?_map]
        cases hq : (ar_ L)[q]? with
        | none => rfl
        | some k' =>
          have hne : k' ≠ k := by
            intro z
            subst z
            exact e ((List.getElem?_inj lj (ar_nd L)).mp (hj.trans hq.symm)).symm
          simp only [Option.map_some, Option.some.injEq]
          unfold ac_
          have : ∀ i_1 : Int, up_ X k i v k' i_1 = X k' i_1 := fun i_1 => by unfold up_; rw [if_neg (fun z => hne z.1)]
          simp only [this]
theorem fs_get {adr : Nat → Nat} {L : Ly_} {X : St_} {k : Nat} (hk : k < L.1) : (fs_ adr L X)[k]? = some (match L.2.1 k with
  | none => .int (zI (X k 0))
  | some _ => .ref (adr k)) := by
  unfold fs_
  rw [List.getElem?_map, List.getElem?_range hk]
  rfl
theorem fs_len {adr : Nat → Nat} {L : Ly_} {X : St_} : (fs_ adr L X).length = L.1 := by
  unfold fs_
  rw [List.length_map, List.length_range]
theorem wd_put {dd : ClassId × ClassId} {adr : Nat → Nat} {ci : Nat} {L : Ly_} {k : Nat} (hk : k < L.1) (h : L.2.1 k = none) (X : St_) (v : Int) :
    (wd_ dd adr ci L X).set 0 (adr L.1, .inr (ci, (fs_ adr L X).set k (.int (zI v)))) = wd_ dd adr ci L (up_ X k 0 v) := by
  unfold wd_
  rw [List.set_cons_zero]
  congr 1
  · congr 3
    apply List.ext_getElem?
    intro q
    by_cases hq : q < L.1
    · rw [fs_get hq]
      by_cases e : q = k
      · subst e
        rw [List.getElem?_set_self (by rw [fs_len]; exact hk), h]
        simp [up_]
      · rw [List.getElem?_set_ne (fun z => e z.symm), fs_get hq]
        have : up_ X k 0 v q 0 = X q 0 := by unfold up_; rw [if_neg (fun z => e z.1)]
        rw [this]
    · rw [List.getElem?_eq_none (by rw [List.length_set, fs_len]; omega), List.getElem?_eq_none (by rw [fs_len]; omega)]
  · apply List.map_congr_left
    intro q hq
    have hne : q ≠ k := by
      intro z
      have := (ar_mem.mp hq).2
      rw [z, h] at this
      simp at this
    unfold ac_
    have : ∀ i_1 : Int, up_ X k 0 v q i_1 = X q i_1 := fun i_1 => by unfold up_; rw [if_neg (fun z => hne z.1)]
    simp only [this]
end
section
/-! THE MACHINE AT A PC, its heap and locals hidden (V_); a row an instruction; the closure; contracts. -/
def V_ (p : Program) (l : Launch) (e : Env) (R : Room) (s : State) (m : MethodId) (args : Array Value) (below : List Frame) (meth : Method) (c : Code) (D : va_G) (dd : ClassId × ClassId) (adr : Nat → Nat) (ci : Nat) (L : Ly_) (nL : Nat) (Q : State → Prop) (pc : Nat) (lv : Lo_) (st : List Vl_) (X : St_) : Prop :=
  rgL_ lv → rgS_ st → rgX_ X → ∀ (H : Heap) (locs : List Loc) (ls : Array Slot), va_P D vwCl (wd_ dd adr ci L X) H → va_S (Af_ L adr s.heap.size) s.heap H locs → Lh_ adr ls nL lv → W p l e R s m args below meth c H locs 0 0 Q (F0 m pc ls (st.map (vl_ adr)))
def ty2_ (dd : ClassId × ClassId) : List (ClassId × FieldType) := [(dd.1, .int), (dd.2, .boolean)]
/-- what the tables say of a class -/
def Kl_ (ci : Nat) (C : String) (T : u_T) (L : Ly_) : Prop :=
  vwCl[ci]? = some (C, T, L.1) ∧ (∀ w ∈ u_ws C T L.1, w ∈ lw_all) ∧
  (∃ ty : Nat → FieldType, (∀ k, k < L.1 → parseFieldDescriptor (T k).2.2.1 = some (ty k)) ∧ ∀ k, k < L.1 → L.2.1 k = none → ty k = .int) ∧
  (∀ a, a < L.1 → ∀ b, b < L.1 → a ≠ b → (T a).2.1 ≠ (T b).2.1) ∧ (∀ k, k < L.1 → L.2.1 k = none → (T k).2.2.2 = false) ∧
  (∀ q ∈ L.2.2.1, q.2 < L.1 ∧ Cond.fieldLink C q.1 (T q.2).1 (T q.2).2.1 (T q.2).2.2.1 ∈ lw_all) ∧
  (∀ q ∈ L.2.2.2, zR q.2 ∧ Cond.constant C q.1 (zI q.2) ∈ lw_all)
section VV
variable {p : Program} {l : Launch} {e : Env} {R : Room} {s : State} {m : MethodId} {args : Array Value} {below : List Frame} {meth : Method} {c : Code} {D : va_G} {dd : ClassId × ClassId} {adr : Nat → Nat} {ci : Nat} {L : Ly_} {nL : Nat} {Q : State → Prop} {cc : ByteArray} {pc : Nat} {lv : Lo_} {st r : List Vl_} {X : St_}
theorem V_.iconst (hx : p.tables.exec = Jvm.exec) (hb : c.code = cc) {n : Int} (hd : decode cc pc = .ok (.iconst n, 1)) (hn : zR n) (k : V_ p l e R s m args below meth c D dd adr ci L nL Q (pc + 1) lv (.inl n :: st) X) : V_ p l e R s m args below meth c D dd adr ci L nL Q pc lv st X := by
  intro h1 h2 h3 H locs ls hP hS hl
  exact lv_iconst (v := zI n) hx hb hd rfl (k h1 (rgS_cons hn h2) h3 H locs ls hP hS hl)
theorem V_.bipush (hx : p.tables.exec = Jvm.exec) (hb : c.code = cc) {n : Int} (hd : decode cc pc = .ok (.bipush n, 2)) (hn : -128 ≤ n ∧ n < 128) (k : V_ p l e R s m args below meth c D dd adr ci L nL Q (pc + 2) lv (.inl n :: st) X) : V_ p l e R s m args below meth c D dd adr ci L nL Q pc lv st X := by
  intro h1 h2 h3 H locs ls hP hS hl
  exact lv_bipush (v := zI n) hx hb hd (zI_byte hn.1 hn.2) (k h1 (rgS_cons (show zR n from ⟨by omega, by omega⟩) h2) h3 H locs ls hP hS hl)
theorem V_.sipush (hx : p.tables.exec = Jvm.exec) (hb : c.code = cc) {n : Int} (hd : decode cc pc = .ok (.sipush n, 3)) (hn : -32768 ≤ n ∧ n < 32768) (k : V_ p l e R s m args below meth c D dd adr ci L nL Q (pc + 3) lv (.inl n :: st) X) : V_ p l e R s m args below meth c D dd adr ci L nL Q pc lv st X := by
  intro h1 h2 h3 H locs ls hP hS hl
  exact lv_sipush (v := zI n) hx hb hd (zI_short hn.1 hn.2) (k h1 (rgS_cons (show zR n from ⟨by omega, by omega⟩) h2) h3 H locs ls hP hS hl)
theorem V_.ldc (hx : p.tables.exec = Jvm.exec) (hb : c.code = cc) {own : String} (hown : s.vm.findClass own = some m.cls) {j : Nat} {n : Int} (hc : (Cond.constant own j (zI n)).before args s = true) (hd : decode cc pc = .ok (.ldc j, 2)) (hn : zR n) (k : V_ p l e R s m args below meth c D dd adr ci L nL Q (pc + 2) lv (.inl n :: st) X) : V_ p l e R s m args below meth c D dd adr ci L nL Q pc lv st X := by
  intro h1 h2 h3 H locs ls hP hS hl
  exact lv_ldc (v := zI n) hx hb hown hc hd (k h1 (rgS_cons hn h2) h3 H locs ls hP hS hl)
theorem V_.iload (hx : p.tables.exec = Jvm.exec) (hb : c.code = cc) {j : Nat} {z : Int} (hg : lg_ lv j = some (.inl z)) (hd : decode cc pc = .ok (.iload j, 2)) (k : V_ p l e R s m args below meth c D dd adr ci L nL Q (pc + 2) lv (.inl z :: st) X) : V_ p l e R s m args below meth c D dd adr ci L nL Q pc lv st X := by
  intro h1 h2 h3 H locs ls hP hS hl
  exact lv_iload (x := zI z) hx hb hd (hl.2.2 j _ hg) (k h1 (rgS_cons (h1 j _ hg) h2) h3 H locs ls hP hS hl)
theorem V_.iload_n (hx : p.tables.exec = Jvm.exec) (hb : c.code = cc) {j : Fin 4} {z : Int} (hg : lg_ lv j.val = some (.inl z)) (hd : decode cc pc = .ok (.iload_n j, 1)) (k : V_ p l e R s m args below meth c D dd adr ci L nL Q (pc + 1) lv (.inl z :: st) X) : V_ p l e R s m args below meth c D dd adr ci L nL Q pc lv st X := by
  intro h1 h2 h3 H locs ls hP hS hl
  exact lv_iload_n (x := zI z) hx hb hd rfl (hl.2.2 j.val _ hg) (k h1 (rgS_cons (h1 j.val _ hg) h2) h3 H locs ls hP hS hl)
theorem V_.aload_n (hx : p.tables.exec = Jvm.exec) (hb : c.code = cc) {j : Fin 4} {t : Nat} (hg : lg_ lv j.val = some (.inr t)) (hd : decode cc pc = .ok (.aload_n j, 1)) (k : V_ p l e R s m args below meth c D dd adr ci L nL Q (pc + 1) lv (.inr t :: st) X) : V_ p l e R s m args below meth c D dd adr ci L nL Q pc lv st X := by
  intro h1 h2 h3 H locs ls hP hS hl
  exact lv_aload_n (x := adr t) hx hb hd rfl (hl.2.2 j.val _ hg) (k h1 (rgS_cons (h1 j.val _ hg) h2) h3 H locs ls hP hS hl)
theorem V_.istore (hx : p.tables.exec = Jvm.exec) (hb : c.code = cc) {j : Nat} {z : Int} (hd : decode cc pc = .ok (.istore j, 2)) (hj : j < nL) (k : V_ p l e R s m args below meth c D dd adr ci L nL Q (pc + 2) (lp_ j (.inl z) lv) r X) : V_ p l e R s m args below meth c D dd adr ci L nL Q pc lv (.inl z :: r) X := by
  intro h1 h2 h3 H locs ls hP hS hl
  exact lv_istore (x := zI z) hx hb hd hl.has hj rfl (fun ls' hl' => k (rgL_lp h1 (rgS_head h2)) (rgS_tail h2) h3 H locs ls' hP hS (Lh_.put (v := .inl z) hl'))
theorem V_.istore_n (hx : p.tables.exec = Jvm.exec) (hb : c.code = cc) {j : Fin 4} {z : Int} (hd : decode cc pc = .ok (.istore_n j, 1)) (hj : j.val < nL) (k : V_ p l e R s m args below meth c D dd adr ci L nL Q (pc + 1) (lp_ j.val (.inl z) lv) r X) : V_ p l e R s m args below meth c D dd adr ci L nL Q pc lv (.inl z :: r) X := by
  intro h1 h2 h3 H locs ls hP hS hl
  exact lv_istore_n (x := zI z) hx hb hd rfl hl.has hj rfl (fun ls' hl' => k (rgL_lp h1 (rgS_head h2)) (rgS_tail h2) h3 H locs ls' hP hS (Lh_.put (v := .inl z) hl'))
theorem V_.iinc (hx : p.tables.exec = Jvm.exec) (hb : c.code = cc) {j : Nat} {z n : Int} (hg : lg_ lv j = some (.inl z)) (hd : decode cc pc = .ok (.iinc j n, 3)) (hj : j < nL) (hz : zR (z + n)) (k : V_ p l e R s m args below meth c D dd adr ci L nL Q (pc + 3) (lp_ j (.inl (z + n)) lv) st X) : V_ p l e R s m args below meth c D dd adr ci L nL Q pc lv st X := by
  intro h1 h2 h3 H locs ls hP hS hl
  have hm : (j, vl_ adr (.inl z)) ∈ lvl_ adr lv := lvl_mem.mpr ⟨_, hg, rfl⟩
  obtain ⟨q, hq⟩ := List.getElem?_of_mem hm
  exact lv_iinc (x := zI z) (v := zI (z + n)) hx hb hd hl.has hq (zI_add z n) hj rfl (fun ls' hl' => k (rgL_lp h1 hz) h2 h3 H locs ls' hP hS (Lh_.put (v := .inl (z + n)) hl'))
theorem V_.iadd (hx : p.tables.exec = Jvm.exec) (hb : c.code = cc) {x y : Int} (hd : decode cc pc = .ok (.iadd, 1)) (hz : zR (x + y)) (k : V_ p l e R s m args below meth c D dd adr ci L nL Q (pc + 1) lv (.inl (x + y) :: r) X) : V_ p l e R s m args below meth c D dd adr ci L nL Q pc lv (.inl y :: .inl x :: r) X := by
  intro h1 h2 h3 H locs ls hP hS hl
  refine lv_iadd (x := zI x) (y := zI y) hx hb hd ?_
  rw [zI_add]
  exact k h1 (rgS_cons hz (rgS_tail (rgS_tail h2))) h3 H locs ls hP hS hl
theorem V_.isub (hx : p.tables.exec = Jvm.exec) (hb : c.code = cc) {x y : Int} (hd : decode cc pc = .ok (.isub, 1)) (hz : zR (x - y)) (k : V_ p l e R s m args below meth c D dd adr ci L nL Q (pc + 1) lv (.inl (x - y) :: r) X) : V_ p l e R s m args below meth c D dd adr ci L nL Q pc lv (.inl y :: .inl x :: r) X := by
  intro h1 h2 h3 H locs ls hP hS hl
  refine lv_isub (x := zI x) (y := zI y) hx hb hd ?_
  rw [zI_sub]
  exact k h1 (rgS_cons hz (rgS_tail (rgS_tail h2))) h3 H locs ls hP hS hl
theorem V_.imul (hx : p.tables.exec = Jvm.exec) (hb : c.code = cc) {x y : Int} (hd : decode cc pc = .ok (.imul, 1)) (hz : zR (x * y)) (k : V_ p l e R s m args below meth c D dd adr ci L nL Q (pc + 1) lv (.inl (x * y) :: r) X) : V_ p l e R s m args below meth c D dd adr ci L nL Q pc lv (.inl y :: .inl x :: r) X := by
  intro h1 h2 h3 H locs ls hP hS hl
  refine lv_imul (x := zI x) (y := zI y) hx hb hd ?_
  rw [zI_mul]
  exact k h1 (rgS_cons hz (rgS_tail (rgS_tail h2))) h3 H locs ls hP hS hl
theorem V_.idiv (hx : p.tables.exec = Jvm.exec) (hb : c.code = cc) {x y : Int} (hd : decode cc pc = .ok (.idiv, 1)) (h0 : 0 ≤ x) (hy0 : 0 < y) (k : V_ p l e R s m args below meth c D dd adr ci L nL Q (pc + 1) lv (.inl (x / y) :: r) X) : V_ p l e R s m args below meth c D dd adr ci L nL Q pc lv (.inl y :: .inl x :: r) X := by
  intro h1 h2 h3 H locs ls hP hS hl
  have hY : zR y := rgS_head h2
  have hX : zR x := rgS_head (rgS_tail h2)
  refine lv_idiv (x := zI x) (y := zI y) hx hb hd (fun h => ?_) ?_
  · rw [← zI_0, zI_eq hY (by decide)] at h
    omega
  · rw [zI_div hX hY h0 hy0]
    exact k h1 (rgS_cons (show zR _ from ⟨by have := Int.ediv_nonneg h0 (Int.le_of_lt hy0); omega, by have := Int.ediv_le_self y h0; have := hX.2; omega⟩) (rgS_tail (rgS_tail h2))) h3 H locs ls hP hS hl
theorem V_.irem (hx : p.tables.exec = Jvm.exec) (hb : c.code = cc) {x y : Int} (hd : decode cc pc = .ok (.irem, 1)) (h0 : 0 ≤ x) (hy0 : 0 < y) (k : V_ p l e R s m args below meth c D dd adr ci L nL Q (pc + 1) lv (.inl (x % y) :: r) X) : V_ p l e R s m args below meth c D dd adr ci L nL Q pc lv (.inl y :: .inl x :: r) X := by
  intro h1 h2 h3 H locs ls hP hS hl
  have hY : zR y := rgS_head h2
  have hX : zR x := rgS_head (rgS_tail h2)
  refine lv_irem (x := zI x) (y := zI y) hx hb hd (fun h => ?_) ?_
  · rw [← zI_0, zI_eq hY (by decide)] at h
    omega
  · rw [zI_rem hX hY h0 hy0]
    exact k h1 (rgS_cons (show zR _ from ⟨by have := Int.emod_nonneg x (show y ≠ 0 by omega); omega, by have := Int.emod_lt_of_pos x hy0; have := hY.2; omega⟩) (rgS_tail (rgS_tail h2))) h3 H locs ls hP hS hl
theorem V_.ishl (hx : p.tables.exec = Jvm.exec) (hb : c.code = cc) {x y : Int} (hd : decode cc pc = .ok (.ishl, 1)) (k : V_ p l e R s m args below meth c D dd adr ci L nL Q (pc + 1) lv (.inl (zShl x y) :: r) X) : V_ p l e R s m args below meth c D dd adr ci L nL Q pc lv (.inl y :: .inl x :: r) X := by
  intro h1 h2 h3 H locs ls hP hS hl
  refine lv_ishl (x := zI x) (y := zI y) hx hb hd ?_
  have k := k h1 (rgS_cons (show zR (zShl x y) from zR_of _) (rgS_tail (rgS_tail h2))) h3 H locs ls hP hS hl
  rw [List.map_cons, show vl_ adr (.inl (zShl x y)) = .int _ from congrArg Value.int (zI_of _)] at k
  exact k
theorem V_.ishr (hx : p.tables.exec = Jvm.exec) (hb : c.code = cc) {x y : Int} (hd : decode cc pc = .ok (.ishr, 1)) (k : V_ p l e R s m args below meth c D dd adr ci L nL Q (pc + 1) lv (.inl (zShr x y) :: r) X) : V_ p l e R s m args below meth c D dd adr ci L nL Q pc lv (.inl y :: .inl x :: r) X := by
  intro h1 h2 h3 H locs ls hP hS hl
  refine lv_ishr (x := zI x) (y := zI y) hx hb hd ?_
  have k := k h1 (rgS_cons (show zR (zShr x y) from zR_of _) (rgS_tail (rgS_tail h2))) h3 H locs ls hP hS hl
  rw [List.map_cons, show vl_ adr (.inl (zShr x y)) = .int _ from congrArg Value.int (zI_of _)] at k
  exact k
theorem V_.iand (hx : p.tables.exec = Jvm.exec) (hb : c.code = cc) {x y : Int} (hd : decode cc pc = .ok (.iand, 1)) (k : V_ p l e R s m args below meth c D dd adr ci L nL Q (pc + 1) lv (.inl (zAnd x y) :: r) X) : V_ p l e R s m args below meth c D dd adr ci L nL Q pc lv (.inl y :: .inl x :: r) X := by
  intro h1 h2 h3 H locs ls hP hS hl
  refine lv_iand (x := zI x) (y := zI y) hx hb hd ?_
  have k := k h1 (rgS_cons (show zR (zAnd x y) from zR_of _) (rgS_tail (rgS_tail h2))) h3 H locs ls hP hS hl
  rw [List.map_cons, show vl_ adr (.inl (zAnd x y)) = .int _ from congrArg Value.int (zI_of _)] at k
  exact k
theorem V_.ior (hx : p.tables.exec = Jvm.exec) (hb : c.code = cc) {x y : Int} (hd : decode cc pc = .ok (.ior, 1)) (k : V_ p l e R s m args below meth c D dd adr ci L nL Q (pc + 1) lv (.inl (zOr x y) :: r) X) : V_ p l e R s m args below meth c D dd adr ci L nL Q pc lv (.inl y :: .inl x :: r) X := by
  intro h1 h2 h3 H locs ls hP hS hl
  refine lv_ior (x := zI x) (y := zI y) hx hb hd ?_
  have k := k h1 (rgS_cons (show zR (zOr x y) from zR_of _) (rgS_tail (rgS_tail h2))) h3 H locs ls hP hS hl
  rw [List.map_cons, show vl_ adr (.inl (zOr x y)) = .int _ from congrArg Value.int (zI_of _)] at k
  exact k
theorem V_.icmp (hx : p.tables.exec = Jvm.exec) (hb : c.code = cc) {x y o : Int} {tg : Nat} {c0 : ClassFile.Cond} (hd : decode cc pc = .ok (.if_icmp c0 o, 3)) (ht : (pc : Int) + o = (tg : Int)) (k : cmp_ c0 x y (V_ p l e R s m args below meth c D dd adr ci L nL Q tg lv r X) (V_ p l e R s m args below meth c D dd adr ci L nL Q (pc + 3) lv r X)) : V_ p l e R s m args below meth c D dd adr ci L nL Q pc lv (.inl y :: .inl x :: r) X := by
  intro h1 h2 h3 H locs ls hP hS hl
  have hY : zR y := rgS_head h2
  have hX : zR x := rgS_head (rgS_tail h2)
  have h2 := rgS_tail (rgS_tail h2)
  cases c0 with
  | eq => exact lv_icmp_eq (x := zI x) (y := zI y) hx hb hd ht (fun q => k.1 ((zI_eq hX hY).mp q) h1 h2 h3 H locs ls hP hS hl) (fun q => k.2 (fun z => q ((zI_eq hX hY).mpr z)) h1 h2 h3 H locs ls hP hS hl)
  | ne => exact lv_icmp_ne (x := zI x) (y := zI y) hx hb hd ht (fun q => k.1 (fun z => q ((zI_eq hX hY).mpr z)) h1 h2 h3 H locs ls hP hS hl) (fun q => k.2 ((zI_eq hX hY).mp q) h1 h2 h3 H locs ls hP hS hl)
  | lt => exact lv_icmp_lt (x := zI x) (y := zI y) hx hb hd ht (fun q => k.1 ((zI_lt hX hY).mp q) h1 h2 h3 H locs ls hP hS hl) (fun q => k.2 (Int.not_lt.mp (fun z => q ((zI_lt hX hY).mpr z))) h1 h2 h3 H locs ls hP hS hl)
  | ge => exact lv_icmp_ge (x := zI x) (y := zI y) hx hb hd ht (fun q => k.1 ((zI_le hY hX).mp q) h1 h2 h3 H locs ls hP hS hl) (fun q => k.2 (Int.not_le.mp (fun z => q ((zI_le hY hX).mpr z))) h1 h2 h3 H locs ls hP hS hl)
  | gt => exact lv_icmp_gt (x := zI x) (y := zI y) hx hb hd ht (fun q => k.1 ((zI_lt hY hX).mp q) h1 h2 h3 H locs ls hP hS hl) (fun q => k.2 (Int.not_lt.mp (fun z => q ((zI_lt hY hX).mpr z))) h1 h2 h3 H locs ls hP hS hl)
  | le => exact lv_icmp_le (x := zI x) (y := zI y) hx hb hd ht (fun q => k.1 ((zI_le hX hY).mp q) h1 h2 h3 H locs ls hP hS hl) (fun q => k.2 (Int.not_le.mp (fun z => q ((zI_le hX hY).mpr z))) h1 h2 h3 H locs ls hP hS hl)
theorem V_.ifc (hx : p.tables.exec = Jvm.exec) (hb : c.code = cc) {x o : Int} {tg : Nat} {c0 : ClassFile.Cond} (hd : decode cc pc = .ok (.ifCond c0 o, 3)) (ht : (pc : Int) + o = (tg : Int)) (k : cmp_ c0 x 0 (V_ p l e R s m args below meth c D dd adr ci L nL Q tg lv r X) (V_ p l e R s m args below meth c D dd adr ci L nL Q (pc + 3) lv r X)) : V_ p l e R s m args below meth c D dd adr ci L nL Q pc lv (.inl x :: r) X := by
  intro h1 h2 h3 H locs ls hP hS hl
  have hY : zR 0 := by decide
  have hX : zR x := rgS_head h2
  have h2 := rgS_tail h2
  cases c0 with
  | eq => exact lv_if_eq (x := zI x) hx hb hd ht (fun q => k.1 ((zI_eq hX hY).mp q) h1 h2 h3 H locs ls hP hS hl) (fun q => k.2 (fun z => q ((zI_eq hX hY).mpr z)) h1 h2 h3 H locs ls hP hS hl)
  | ne => exact lv_if_ne (x := zI x) hx hb hd ht (fun q => k.1 (fun z => q ((zI_eq hX hY).mpr z)) h1 h2 h3 H locs ls hP hS hl) (fun q => k.2 ((zI_eq hX hY).mp q) h1 h2 h3 H locs ls hP hS hl)
  | lt => exact lv_if_lt (x := zI x) hx hb hd ht (fun q => k.1 ((zI_lt hX hY).mp q) h1 h2 h3 H locs ls hP hS hl) (fun q => k.2 (Int.not_lt.mp (fun z => q ((zI_lt hX hY).mpr z))) h1 h2 h3 H locs ls hP hS hl)
  | ge => exact lv_if_ge (x := zI x) hx hb hd ht (fun q => k.1 ((zI_le hY hX).mp q) h1 h2 h3 H locs ls hP hS hl) (fun q => k.2 (Int.not_le.mp (fun z => q ((zI_le hY hX).mpr z))) h1 h2 h3 H locs ls hP hS hl)
  | gt => exact lv_if_gt (x := zI x) hx hb hd ht (fun q => k.1 ((zI_lt hY hX).mp q) h1 h2 h3 H locs ls hP hS hl) (fun q => k.2 (Int.not_lt.mp (fun z => q ((zI_lt hY hX).mpr z))) h1 h2 h3 H locs ls hP hS hl)
  | le => exact lv_if_le (x := zI x) hx hb hd ht (fun q => k.1 ((zI_le hX hY).mp q) h1 h2 h3 H locs ls hP hS hl) (fun q => k.2 (Int.not_le.mp (fun z => q ((zI_le hX hY).mpr z))) h1 h2 h3 H locs ls hP hS hl)
theorem V_.goto (hx : p.tables.exec = Jvm.exec) (hb : c.code = cc) {o : Int} {tg : Nat} (hd : decode cc pc = .ok (.goto o, 3)) (ht : (pc : Int) + o = (tg : Int)) (k : V_ p l e R s m args below meth c D dd adr ci L nL Q tg lv st X) : V_ p l e R s m args below meth c D dd adr ci L nL Q pc lv st X := by
  intro h1 h2 h3 H locs ls hP hS hl
  exact lv_goto hx hb hd ht (k h1 h2 h3 H locs ls hP hS hl)
theorem V_.dup (hx : p.tables.exec = Jvm.exec) (hb : c.code = cc) {v : Vl_} (hd : decode cc pc = .ok (.dup, 1)) (k : V_ p l e R s m args below meth c D dd adr ci L nL Q (pc + 1) lv (v :: v :: r) X) : V_ p l e R s m args below meth c D dd adr ci L nL Q pc lv (v :: r) X := by
  intro h1 h2 h3 H locs ls hP hS hl
  exact lv_dup hx hb hd (vl_cat adr v) (k h1 (rgS_cons (rgS_head h2) h2) h3 H locs ls hP hS hl)
theorem V_.dup2 (hx : p.tables.exec = Jvm.exec) (hb : c.code = cc) {v w : Vl_} (hd : decode cc pc = .ok (.dup2, 1)) (k : V_ p l e R s m args below meth c D dd adr ci L nL Q (pc + 1) lv (v :: w :: v :: w :: r) X) : V_ p l e R s m args below meth c D dd adr ci L nL Q pc lv (v :: w :: r) X := by
  intro h1 h2 h3 H locs ls hP hS hl
  exact lv_dup2_11 hx hb hd (vl_cat adr v) (vl_cat adr w) (k h1 (rgS_cons (rgS_head h2) (rgS_cons (rgS_head (rgS_tail h2)) h2)) h3 H locs ls hP hS hl)
variable {C : String} {T : u_T}
theorem V_.getI (hx : p.tables.exec = Jvm.exec) (hb : c.code = cc) (hKl : Kl_ ci C T L) (hts : ∀ w ∈ lw_all, w.before args s = true) (hown : s.vm.findClass C = some m.cls) (hK : va_K D vwCl (ty2_ dd) s) {j f : Nat} (hf : lk_ L.2.2.1 j = some f) (hkd : L.2.1 f = none) (hd : decode cc pc = .ok (.getfield j, 3)) (k : V_ p l e R s m args below meth c D dd adr ci L nL Q (pc + 3) lv (.inl (X f 0) :: r) X) : V_ p l e R s m args below meth c D dd adr ci L nL Q pc lv (.inr L.1 :: r) X := by
  intro h1 h2 h3 H locs ls hP hS hl
  obtain ⟨a1, a2, -, -, -, a6, -⟩ := hKl
  obtain ⟨g1, g2⟩ := a6 (j, f) (lk_mem hf)
  have hv : (fs_ adr L X)[f]? = some (.int (zI (X f 0))) := by rw [fs_get g1, hkd]
  exact va_get (v := .int (zI (X f 0))) hx hb hts a2 hown hK hP 0 rfl a1 f g1 (hts _ g2) (fun _ h9 => h9) hv hd (k h1 (rgS_cons (h3 f 0) (rgS_tail h2)) h3 H locs ls hP hS hl)
theorem V_.getA (hx : p.tables.exec = Jvm.exec) (hb : c.code = cc) (hKl : Kl_ ci C T L) (hts : ∀ w ∈ lw_all, w.before args s = true) (hown : s.vm.findClass C = some m.cls) (hK : va_K D vwCl (ty2_ dd) s) {j f : Nat} {z : Bool × Nat} (hf : lk_ L.2.2.1 j = some f) (hkd : L.2.1 f = some z) (hd : decode cc pc = .ok (.getfield j, 3)) (k : V_ p l e R s m args below meth c D dd adr ci L nL Q (pc + 3) lv (.inr f :: r) X) : V_ p l e R s m args below meth c D dd adr ci L nL Q pc lv (.inr L.1 :: r) X := by
  intro h1 h2 h3 H locs ls hP hS hl
  obtain ⟨a1, a2, -, -, -, a6, -⟩ := hKl
  obtain ⟨g1, g2⟩ := a6 (j, f) (lk_mem hf)
  have hv : (fs_ adr L X)[f]? = some (.ref (adr f)) := by rw [fs_get g1, hkd]
  exact va_get (v := .ref (adr f)) hx hb hts a2 hown hK hP 0 rfl a1 f g1 (hts _ g2) (fun _ h9 => h9) hv hd (k h1 (rgS_cons (show rgV_ (.inr f) from trivial) (rgS_tail h2)) h3 H locs ls hP hS hl)
theorem V_.putI (hx : p.tables.exec = Jvm.exec) (hb : c.code = cc) (hKl : Kl_ ci C T L) (hts : ∀ w ∈ lw_all, w.before args s = true) (hown : s.vm.findClass C = some m.cls) (hK : va_K D vwCl (ty2_ dd) s) (hAp : Ap_ L adr) {j f : Nat} {v : Int} (hf : lk_ L.2.2.1 j = some f) (hkd : L.2.1 f = none) (hd : decode cc pc = .ok (.putfield j, 3)) (k : V_ p l e R s m args below meth c D dd adr ci L nL Q (pc + 3) lv r (up_ X f 0 v)) : V_ p l e R s m args below meth c D dd adr ci L nL Q pc lv (.inl v :: .inr L.1 :: r) X := by
  intro h1 h2 h3 H locs ls hP hS hl
  obtain ⟨a1, a2, ⟨ty, a3, a3'⟩, a4, a5, a6, -⟩ := hKl
  obtain ⟨g1, g2⟩ := a6 (j, f) (lk_mem hf)
  refine va_put (v := .int (zI v)) (ty := .int) hx hb hts a2 ty a3 a4 hown hK hP (wd_D hAp X) hS 0 rfl a1 f g1 (hts _ g2) (fun _ h9 => h9) (a5 f g1 hkd) (by rw [a3 f g1, a3' f g1 hkd]) rfl rfl (by rw [fs_len]; exact g1) hd (fun H1 locs1 hP1 _ hS1 => ?_)
  rw [wd_put g1 hkd] at hP1
  exact k h1 (rgS_tail (rgS_tail h2)) (rgX_up h3 (rgS_head h2)) H1 locs1 ls hP1 hS1 hl
theorem V_.iald (hx : p.tables.exec = Jvm.exec) (hb : c.code = cc) (hK : va_K D vwCl (ty2_ dd) s) {f n : Nat} {i : Int} (hf : f < L.1) (hkd : L.2.1 f = some (false, n)) (h0 : 0 ≤ i) (hi : i < n) (hd : decode cc pc = .ok (.iaload, 1)) (k : V_ p l e R s m args below meth c D dd adr ci L nL Q (pc + 1) lv (.inl (X f i) :: r) X) : V_ p l e R s m args below meth c D dd adr ci L nL Q pc lv (.inl i :: .inr f :: r) X := by
  intro h1 h2 h3 H locs ls hP hS hl
  have hI : zR i := rgS_head h2
  obtain ⟨q, w1, -⟩ := wd_arr (dd := dd) (adr := adr) (ci := ci) hf hkd
  refine va_iald hx hb hK hP q 0 (w1 X) rfl (zI_in hI h0 hi) hd ?_
  have k := k h1 (rgS_cons (h3 f i) (rgS_tail (rgS_tail h2))) h3 H locs ls hP hS hl
  rw [zI_clamp hI, Int.toNat_of_nonneg h0]
  exact k
theorem V_.zald (hx : p.tables.exec = Jvm.exec) (hb : c.code = cc) (hK : va_K D vwCl (ty2_ dd) s) {f n : Nat} {i : Int} (hf : f < L.1) (hkd : L.2.1 f = some (true, n)) (h0 : 0 ≤ i) (hi : i < n) (hd : decode cc pc = .ok (.baload, 1)) (k : V_ p l e R s m args below meth c D dd adr ci L nL Q (pc + 1) lv (.inl (X f i) :: r) X) : V_ p l e R s m args below meth c D dd adr ci L nL Q pc lv (.inl i :: .inr f :: r) X := by
  intro h1 h2 h3 H locs ls hP hS hl
  have hI : zR i := rgS_head h2
  obtain ⟨q, w1, -⟩ := wd_arr (dd := dd) (adr := adr) (ci := ci) hf hkd
  refine va_zald hx hb hK hP q 1 (w1 X) rfl (zI_in hI h0 hi) hd ?_
  have k := k h1 (rgS_cons (h3 f i) (rgS_tail (rgS_tail h2))) h3 H locs ls hP hS hl
  rw [zI_clamp hI, Int.toNat_of_nonneg h0]
  exact k
theorem upd_up {X : St_} {f : Nat} {i v : Int} {x : Int32} (hx : x = zI v) (h0 : 0 ≤ i) (j : Nat) : upd (fun i => zI (X f i)) i.toNat x j = zI (up_ X f i v f j) := by
  unfold upd up_
  by_cases h : j = i.toNat
  · rw [if_pos h, if_pos ⟨rfl, by omega⟩, hx]
  · rw [if_neg h, if_neg (fun z => h (by omega))]
theorem V_.iast (hx : p.tables.exec = Jvm.exec) (hb : c.code = cc) (hK : va_K D vwCl (ty2_ dd) s) (hAp : Ap_ L adr) {f n : Nat} {i v : Int} (hf : f < L.1) (hkd : L.2.1 f = some (false, n)) (h0 : 0 ≤ i) (hi : i < n) (hd : decode cc pc = .ok (.iastore, 1)) (k : V_ p l e R s m args below meth c D dd adr ci L nL Q (pc + 1) lv r (up_ X f i v)) : V_ p l e R s m args below meth c D dd adr ci L nL Q pc lv (.inl v :: .inl i :: .inr f :: r) X := by
  intro h1 h2 h3 H locs ls hP hS hl
  have hI : zR i := rgS_head (rgS_tail h2)
  obtain ⟨q, w1, w2⟩ := wd_arr (dd := dd) (adr := adr) (ci := ci) hf hkd
  refine va_iast (x := zI v) hx hb hK hP (wd_D hAp X) hS q 0 (w1 X) rfl (zI_in hI h0 hi) hd (fun H1 locs1 hP1 _ hS1 => ?_)
  rw [zI_clamp hI] at hP1
  have e := w2 X i v _ (upd_up rfl h0)
  rw [e] at hP1
  exact k h1 (rgS_tail (rgS_tail (rgS_tail h2))) (rgX_up h3 (rgS_head h2)) H1 locs1 ls hP1 hS1 hl
theorem V_.zast (hx : p.tables.exec = Jvm.exec) (hb : c.code = cc) (hK : va_K D vwCl (ty2_ dd) s) (hAp : Ap_ L adr) {f n : Nat} {i v : Int} (hf : f < L.1) (hkd : L.2.1 f = some (true, n)) (h0 : 0 ≤ i) (hi : i < n) (hv : v = 0 ∨ v = 1) (hd : decode cc pc = .ok (.bastore, 1)) (k : V_ p l e R s m args below meth c D dd adr ci L nL Q (pc + 1) lv r (up_ X f i v)) : V_ p l e R s m args below meth c D dd adr ci L nL Q pc lv (.inl v :: .inl i :: .inr f :: r) X := by
  intro h1 h2 h3 H locs ls hP hS hl
  have hI : zR i := rgS_head (rgS_tail h2)
  obtain ⟨q, w1, w2⟩ := wd_arr (dd := dd) (adr := adr) (ci := ci) hf hkd
  refine va_zast (x := zI v) hx hb hK hP (wd_D hAp X) hS q 1 (w1 X) rfl (zI_in hI h0 hi) hd (fun H1 locs1 hP1 _ hS1 => ?_)
  rw [zI_clamp hI] at hP1
  have hn : vp_nar .boolean (zI v) = zI v := by rcases hv with h | h <;> rw [h] <;> decide
  have e := w2 X i v _ (upd_up hn h0)
  rw [e] at hP1
  exact k h1 (rgS_tail (rgS_tail (rgS_tail h2))) (rgX_up h3 (rgS_head h2)) H1 locs1 ls hP1 hS1 hl
end VV
end
section
/-! CONTRACTS: a method's contract Cn_; calls; returns; the closure of V_; a contract out of a pure proof (Cn_of). -/
def rt_ : Nat → Option FieldType
  | 0 => none
  | 1 => some .int
  | _ => some .boolean
def rm_ (d : Nat) : Room := { frames := d, cells := 0, slots := 0, locals := 40 * d }
/-- the end of a method: its answer, its world -/
def Qz_ (rk : Nat) (P : Int → St_ → Prop) (B : St_ → State → Prop) (A : Nat → Prop) : Array Value → State → Outcome → State → Prop := match rk with
  | 0 => va_Qv (fun u : St_ => rgX_ u ∧ P 0 u) B A
  | _ => va_Qi (fun (r : Int32) (u : Int × St_) => r = zI u.1 ∧ zR u.1 ∧ rgX_ u.2 ∧ P u.1 u.2) (fun u t => B u.2 t) A
def av_ (stat : Bool) (adr : Nat → Nat) (L : Ly_) (as : List Int) : List Value := bif stat then as.map (fun a => .int (zI a)) else .ref (adr L.1) :: as.map (fun a => .int (zI a))
def el_ (stat : Bool) (L : Ly_) (as : List Int) : Lo_ := bif stat then as.map (fun a => some (.inl a)) else some (.inr L.1) :: as.map (fun a => some (.inl a))
def Cn_ (ci : Nat) (L : Ly_) (y : MethodName) (code : ByteArray) (maxL lev : Nat) (cs : Cs_) : Prop :=
  ∀ (l : Launch) (D : va_G) (dd : ClassId × ClassId) (adr : Nat → Nat) (sz : Nat) (as : List Int) (X : St_), as.length = cs.1 → (∀ a ∈ as, zR a) → rgX_ X → Ap_ L adr → cs.2.2.2.1 as X →
    Met l y (ws_ y code maxL (rt_ cs.2.2.1)) (rm_ lev) (va_Pc (av_ cs.2.1 adr L as) (fun U => U.heap.size = sz ∧ va_P D vwCl (wd_ dd adr ci L X) U.heap ∧ va_K D vwCl (ty2_ dd) U)) (Qz_ cs.2.2.1 (cs.2.2.2.2 as X) (fun Y t => va_P D vwCl (wd_ dd adr ci L Y) t.heap ∧ va_K D vwCl (ty2_ dd) t) (Af_ L adr sz)) 0 0 (Af_ L adr sz)
/-- a call that a method may make: its callee's contract, and what the tables say -/
def Ck_ (ci : Nat) (C : String) (L : Ly_) (lev idx : Nat) (cs : Cs_) : Prop :=
  ∃ (y : MethodName) (b : ByteArray) (mL d : Nat), Cn_ ci L y b mL d cs ∧ d + 1 ≤ lev ∧ mL ≤ 21 ∧ (parseMethodDescriptor y.desc).map (fun d => d.parameters.length) = some cs.1 ∧ y.cls = C ∧
    (C ≠ "java/lang/invoke/MethodHandle" ∧ C ≠ "java/lang/invoke/VarHandle") ∧ (bif cs.2.1 then GoodIn lw_all (va_wsS C idx y (ws_ y b mL (rt_ cs.2.2.1))) else GoodIn lw_all (wsV C idx C y (ws_ y b mL (rt_ cs.2.2.1))))
theorem pa_spec : ∀ (n : Nat) (st : List Vl_) (acc : List Int) (as : List Int) (r : List Vl_), pa_ n st acc = some (as, r) → ∃ bs : List Int, as = bs ++ acc ∧ bs.length = n ∧ st = (bs.reverse.map Sum.inl) ++ r
  | 0, st, acc, as, r, h => by
    simp only [pa_, Option.some.injEq, Prod.mk.injEq] at h
    obtain ⟨rfl, rfl⟩ := h
    exact ⟨[], rfl, rfl, rfl⟩
  | n + 1, [], acc, as, r, h => by simp [pa_] at h
  | n + 1, .inr k :: st, acc, as, r, h => by simp [pa_] at h
  | n + 1, .inl x :: st, acc, as, r, h => by
    simp only [pa_] at h
    obtain ⟨bs, h1, h2, h3⟩ := pa_spec n st (x :: acc) as r h
    refine ⟨bs ++ [x], by rw [h1]; simp, by simp [h2], ?_⟩
    rw [h3]
    simp
theorem vl_args (adr : Nat → Nat) (bs : List Int) : ((bs.map (Sum.inl : Int → Vl_)).map (vl_ adr)) = bs.map (fun a => Value.int (zI a)) := by
  rw [List.map_map]
  rfl
theorem vl_room (adr : Nat → Nat) : ∀ (r : List Vl_), ((r.map (vl_ adr)).map fun v => v.category).sum = r.length
  | [] => rfl
  | v :: r => by
    rw [List.map_cons, List.map_cons, List.sum_cons, vl_room adr r, vl_cat, List.length_cons]
    omega
section VC
variable {p : Program} {l : Launch} {e : Env} {s : State} {m : MethodId} {args : Array Value} {below : List Frame} {meth : Method} {c : Code} {D : va_G} {dd : ClassId × ClassId} {adr : Nat → Nat} {ci : Nat} {L : Ly_} {nL lev : Nat} {Q : State → Prop} {cc : ByteArray} {pc : Nat} {lv : Lo_} {st r : List Vl_} {X : St_} {C : String} {T : u_T}
theorem Af_free {H : Heap} {locs : List Loc} (hS : va_S (Af_ L adr s.heap.size) s.heap H locs) : ∀ q, Af_ L adr H.size q → Af_ L adr s.heap.size q := by
  intro q h
  rcases h with h | h
  · exact Or.inl h
  · exact Or.inr (Nat.le_trans hS.1 h)
theorem Pz_blind {as : List Value} {sz : Nat} : FrameBlind (va_Pc as (fun U => U.heap.size = sz ∧ va_P D vwCl (wd_ dd adr ci L X) U.heap ∧ va_K D vwCl (ty2_ dd) U)) := by
  intro a U g mk q
  obtain ⟨q0, q1, qP, qK⟩ := q
  exact ⟨q0, q1, qP, va_K.moved (u := U) (U := U.calling g mk a) (Vm.Alike.refl U.vm) qK⟩
theorem V_.go {rk : Nat} {P : Int → St_ → Prop} {a : Array Value} {H : Heap} {locs : List Loc} {ls : Array Slot} {st0 rest : List Value} {R : Room} (hr : va_Run p l e R s m args below meth c H locs 0 0 0 0 (F0 m pc ls st0) rest (Qz_ rk P (fun Y t => va_P D vwCl (wd_ dd adr ci L Y) t.heap ∧ va_K D vwCl (ty2_ dd) t) (Af_ L adr H.size) a) (Af_ L adr H.size)) (hS : va_S (Af_ L adr s.heap.size) s.heap H locs)
    (kk : ∀ (z : Int) (Y : St_) (H1 : Heap) (locs1 : List Loc), zR z → rgX_ Y → P z Y → va_P D vwCl (wd_ dd adr ci L Y) H1 → va_S (Af_ L adr s.heap.size) s.heap H1 locs1 → W p l e R s m args below meth c H1 locs1 0 0 Q (F0 m (pc + 3) ls (bif Nat.beq rk 0 then rest else .int (zI z) :: rest))) : W p l e R s m args below meth c H locs 0 0 Q (F0 m pc ls st0) := by
  cases rk with
  | zero =>
    refine va_callv (a := a) hr hS (fun q _ h => Af_free hS q h) (Af_free hS) (fun u t H1 locs1 ht hvm hpost hB hz hk hS1 => ?_)
    exact kk 0 u H1 locs1 (by decide) hpost.1 hpost.2 (by rw [← ht]; exact hB.1) hS1
  | succ n =>
    refine va_calli (a := a) hr hS (fun q _ h => Af_free hS q h) (Af_free hS) (fun v u t H1 locs1 ht hvm hpost hB hz hk hS1 => ?_)
    obtain ⟨e1, e2, e3, e4⟩ := hpost
    subst e1
    exact kk u.1 u.2 H1 locs1 e2 e3 e4 (by rw [← ht]; exact hB.1) hS1
theorem V_.callV (hx : p.tables.exec = Jvm.exec) (hb : c.code = cc) (hml : c.maxLocals = nL) (hKl : Kl_ ci C T L) (hts : ∀ w ∈ lw_all, w.before args s = true) (hown : s.vm.findClass C = some m.cls) (hK : va_K D vwCl (ty2_ dd) s) (hAp : Ap_ L adr) {idx : Nat} {cs : Cs_} (hck : Ck_ ci C L lev idx cs) (hst : cs.2.1 = false) {as : List Int} (hpa : pa_ cs.1 st [] = some (as, .inr L.1 :: r)) (hr8 : r.length ≤ 8) (hd : decode cc pc = .ok (.invokevirtual idx, 3)) (hpre : cs.2.2.2.1 as X)
    (k : ∀ (z : Int) (Y : St_), cs.2.2.2.2 as X z Y → V_ p l e (rm_ lev) s m args below meth c D dd adr ci L nL Q (pc + 3) lv (bif Nat.beq cs.2.2.1 0 then r else .inl z :: r) Y) : V_ p l e (rm_ lev) s m args below meth c D dd adr ci L nL Q pc lv st X := by
  intro h1 h2 h3 H locs ls hP hS hl
  obtain ⟨y, b, mL, d, hM, hlev, hmL, hn, hyC, hC, hgood⟩ := hck
  rw [hst] at hgood
  obtain ⟨bs, e1, e2, e3⟩ := pa_spec _ _ _ _ _ hpa
  rw [List.append_nil] at e1
  subst e1
  subst e3
  have hra : ∀ a ∈ as, zR a := fun a ha => h2 (.inl a) (List.mem_append_left _ (List.mem_map.mpr ⟨a, List.mem_reverse.mpr ha, rfl⟩))
  have hrr : rgS_ r := fun w hw => h2 w (List.mem_append_right _ (List.mem_cons_of_mem _ hw))
  have hMet := hM l D dd adr H.size as X e2 hra h3 hAp hpre
  have hav : av_ cs.2.1 adr L as = .ref (adr L.1) :: as.map (fun a => .int (zI a)) := by unfold av_; rw [hst]; rfl
  rw [hav] at hMet
  have hstack : ((as.reverse.map Sum.inl ++ Sum.inr L.1 :: r).map (vl_ adr)) = (as.map (fun a => Value.int (zI a))).reverse ++ .ref (adr L.1) :: r.map (vl_ adr) := by
    rw [List.map_append, vl_args, List.map_reverse]
    rfl
  refine V_.go (rk := cs.2.2.1) (rest := r.map (vl_ adr)) (va_runV (As := as.map (fun a => .int (zI a))) (b := adr L.1) (C := C) (n := cs.1) ⟨hx, hb, hml, hown, hts⟩ hMet (cwV cs.1 hts hgood rfl rfl rfl ⟨hyC, by rw [hyC]; exact hC.1, by rw [hyC]; exact hC.2, hn⟩ ⟨hlev, by show 8 + (mL + 11) + 40 * d ≤ 40 * lev; omega⟩) ⟨Pz_blind, va_recv hK hP hKl.1 (q0 := 0) rfl, fun U hU hW => ⟨rfl, by rw [hU], by rw [hU]; exact hP, va_K.moved hW.alike hK⟩⟩ rfl (by rw [List.length_map]; exact e2) hl.1 hstack (lv_room (by rw [vl_room]; exact hr8)) hd ⟨Nat.le_refl _, Nat.le_refl _⟩) hS ?_
  intro z Y H1 locs1 hz hY hpost hP1 hS1
  have kz := k z Y hpost h1
  cases hrk : cs.2.2.1 with
  | zero =>
    rw [hrk] at kz
    exact kz hrr hY H1 locs1 ls hP1 hS1 hl
  | succ n =>
    rw [hrk] at kz
    exact kz (rgS_cons hz hrr) hY H1 locs1 ls hP1 hS1 hl
theorem V_.callS (hx : p.tables.exec = Jvm.exec) (hb : c.code = cc) (hml : c.maxLocals = nL) (hts : ∀ w ∈ lw_all, w.before args s = true) (hown : s.vm.findClass C = some m.cls) (hK : va_K D vwCl (ty2_ dd) s) (hAp : Ap_ L adr) {idx : Nat} {cs : Cs_} (hck : Ck_ ci C L lev idx cs) (hst : cs.2.1 = true) {as : List Int} (hpa : pa_ cs.1 st [] = some (as, r)) (hr8 : r.length ≤ 8) (hd : decode cc pc = .ok (.invokestatic idx, 3)) (hpre : cs.2.2.2.1 as X)
    (k : ∀ (z : Int) (Y : St_), cs.2.2.2.2 as X z Y → V_ p l e (rm_ lev) s m args below meth c D dd adr ci L nL Q (pc + 3) lv (bif Nat.beq cs.2.2.1 0 then r else .inl z :: r) Y) : V_ p l e (rm_ lev) s m args below meth c D dd adr ci L nL Q pc lv st X := by
  intro h1 h2 h3 H locs ls hP hS hl
  obtain ⟨y, b, mL, d, hM, hlev, hmL, hn, hyC, hC, hgood⟩ := hck
  rw [hst] at hgood
  obtain ⟨bs, e1, e2, e3⟩ := pa_spec _ _ _ _ _ hpa
  rw [List.append_nil] at e1
  subst e1
  subst e3
  have hra : ∀ a ∈ as, zR a := fun a ha => h2 (.inl a) (List.mem_append_left _ (List.mem_map.mpr ⟨a, List.mem_reverse.mpr ha, rfl⟩))
  have hrr : rgS_ r := fun w hw => h2 w (List.mem_append_right _ hw)
  have hMet := hM l D dd adr H.size as X e2 hra h3 hAp hpre
  have hav : av_ cs.2.1 adr L as = as.map (fun a => .int (zI a)) := by unfold av_; rw [hst]; rfl
  rw [hav] at hMet
  have hstack : ((as.reverse.map Sum.inl ++ r).map (vl_ adr)) = (as.map (fun a => Value.int (zI a))).reverse ++ r.map (vl_ adr) := by
    rw [List.map_append, vl_args, List.map_reverse]
  refine V_.go (rk := cs.2.2.1) (rest := r.map (vl_ adr)) (va_runS (As := as.map (fun a => .int (zI a))) (n := cs.1) ⟨hx, hb, hml, hown, hts⟩ hMet (va_cwS cs.1 hts hgood rfl rfl rfl ⟨by rw [hyC]; exact hC.1, by rw [hyC]; exact hC.2, hn⟩ ⟨hlev, by show 8 + (mL + 11) + 40 * d ≤ 40 * lev; omega⟩) ⟨Pz_blind, fun U hU hW => ⟨rfl, by rw [hU], by rw [hU]; exact hP, va_K.moved hW.alike hK⟩⟩ rfl (by rw [List.length_map]; exact e2) hl.1 hstack (lv_room (by rw [vl_room]; exact hr8)) hd ⟨Nat.le_refl _, Nat.le_refl _⟩) hS ?_
  intro z Y H1 locs1 hz hY hpost hP1 hS1
  have kz := k z Y hpost h1
  cases hrk : cs.2.2.1 with
  | zero =>
    rw [hrk] at kz
    exact kz hrr hY H1 locs1 ls hP1 hS1 hl
  | succ n =>
    rw [hrk] at kz
    exact kz (rgS_cons hz hrr) hY H1 locs1 ls hP1 hS1 hl
variable {R : Room} {Rt : Int → St_ → Prop}
theorem V_.ret0 (hx : p.tables.exec = Jvm.exec) (hb : c.code = cc) (hr : meth.sig.returnType = rt_ 0) (hlocks : meth.locks = false) (hK : va_K D vwCl (ty2_ dd) s) (hd : decode cc pc = .ok (.return_, 1)) (h : Rt 0 X) : V_ p l e R s m args below meth c D dd adr ci L nL (MQ below (Qz_ 0 Rt (fun Y t => va_P D vwCl (wd_ dd adr ci L Y) t.heap ∧ va_K D vwCl (ty2_ dd) t) (Af_ L adr s.heap.size)) args s 0 0 (Af_ L adr s.heap.size)) pc lv [] X := by
  intro h1 h2 h3 H locs ls hP hS hl
  exact W.vret hx hb hr (fun t ht hW => ⟨⟨X, rfl, ⟨h3, h⟩, by rw [ht]; exact hP, va_K.moved hW.alike hK⟩, hS.F ht⟩) hS.2.2 hd hlocks
theorem V_.ret1 (hx : p.tables.exec = Jvm.exec) (hb : c.code = cc) {v : Int} {rk : Nat} (hr : meth.sig.returnType = rt_ (rk + 1)) (hn : narrow (rk.casesOn .int fun _ => .boolean) (.int (zI v)) = .int (zI v)) (hlocks : meth.locks = false) (hK : va_K D vwCl (ty2_ dd) s) (hd : decode cc pc = .ok (.ireturn, 1)) (h : Rt v X) : V_ p l e R s m args below meth c D dd adr ci L nL (MQ below (Qz_ (rk + 1) Rt (fun Y t => va_P D vwCl (wd_ dd adr ci L Y) t.heap ∧ va_K D vwCl (ty2_ dd) t) (Af_ L adr s.heap.size)) args s 0 0 (Af_ L adr s.heap.size)) pc lv [.inl v] X := by
  intro h1 h2 h3 H locs ls hP hS hl
  have hr' : meth.sig.returnType = some (rk.casesOn .int fun _ => .boolean) := by rw [hr]; cases rk <;> rfl
  exact W.zret (v := zI v) hx hb hr' hn (fun t ht hW => ⟨⟨zI v, (v, X), rfl, ⟨rfl, rgS_head h2, h3, h⟩, by rw [ht]; exact hP, va_K.moved hW.alike hK⟩, hS.F ht⟩) hS.2.2 hd hlocks
end VC
end
section
/-! THE CLOSURE: V_ is closed under the step; a contract out of a pure proof. -/
theorem okE_spec {cc : ByteArray} {nL : Nat} {E : List (Nat × Ent_)} (h : E.all (okE_ cc nL) = true) {pc : Nat} {q : Ent_} (hq : lk_ E pc = some q) : okE_ cc nL (pc, q) = true := List.all_eq_true.mp h _ (lk_mem hq)
theorem cmp_mono {c : ClassFile.Cond} {x y : Int} {a b a' b' : Prop} (ha : a → a') (hb : b → b') (h : cmp_ c x y a b) : cmp_ c x y a' b' := by
  cases c <;> exact ⟨fun q => ha (h.1 q), fun q => hb (h.2 q)⟩
set_option maxHeartbeats 4000000 in
theorem V_clo {p : Program} {l : Launch} {e : Env} {s : State} {m : MethodId} {args : Array Value} {below : List Frame} {meth : Method} {c : Code} {D : va_G} {dd : ClassId × ClassId} {adr : Nat → Nat} {ci : Nat} {L : Ly_} {nL lev : Nat} {cc : ByteArray} {C : String} {T : u_T} {M : Mt_} {Rt : Int → St_ → Prop}
    (hx : p.tables.exec = Jvm.exec) (hb : c.code = cc) (hml : c.maxLocals = nL) (hr : meth.sig.returnType = rt_ M.2.2.1) (hlocks : meth.locks = false) (hKl : Kl_ ci C T L) (hts : ∀ w ∈ lw_all, w.before args s = true) (hown : s.vm.findClass C = some m.cls) (hK : va_K D vwCl (ty2_ dd) s) (hAp : Ap_ L adr)
    (hfl : ∀ f z, L.2.1 f = some z → f < L.1) (hL : M.1 = L) (hE : M.2.2.2.all (okE_ cc nL) = true) (hC : ∀ q ∈ M.2.1, Ck_ ci C L lev q.1 q.2) :
    Clo_ M Rt (V_ p l e (rm_ lev) s m args below meth c D dd adr ci L nL (MQ below (Qz_ M.2.2.1 Rt (fun Y t => va_P D vwCl (wd_ dd adr ci L Y) t.heap ∧ va_K D vwCl (ty2_ dd) t) (Af_ L adr s.heap.size)) args s 0 0 (Af_ L adr s.heap.size))) := by
  constructor
  · intro k hk pc q lv st X hq h
    have hok := okE_spec hE hq
    obtain ⟨i, nx, tg⟩ := q
    simp only [okE_, Bool.and_eq_true, decide_eq_true_eq] at hok
    obtain ⟨⟨hd, hnx⟩, hchk⟩ := hok
    have hnx := Nat.eq_of_beq_eq_true hnx
    subst hnx
    obtain ⟨L', Cs, rk, E⟩ := M
    have hL : L' = L := hL
    subst hL
    cases i
    all_goals first | exact False.elim h | skip
    case iconst n =>
      exact V_.iconst hx hb hd (by simpa using hchk) (hk _ _ _ _ h)
    case bipush n =>
      exact V_.bipush hx hb hd (by simpa using hchk) (hk _ _ _ _ h)
    case sipush n =>
      exact V_.sipush hx hb hd (by simpa using hchk) (hk _ _ _ _ h)
    case ldc j =>
      simp only [st_] at h
      split at h
      · rename_i n hn
        have hz := hKl.2.2.2.2.2.2 (j, n) (lk_mem hn)
        exact V_.ldc hx hb hown (hts _ hz.2) hd hz.1 (hk _ _ _ _ h)
      · exact h.elim
    case iload j =>
      simp only [st_, ldi_] at h
      split at h
      · rename_i z hz
        exact V_.iload hx hb hz hd (hk _ _ _ _ h)
      · exact h.elim
    case iload_n j =>
      simp only [st_, ldi_] at h
      split at h
      · rename_i z hz
        exact V_.iload_n hx hb hz hd (hk _ _ _ _ h)
      · exact h.elim
    case aload_n j =>
      simp only [st_, ldr_] at h
      split at h
      · rename_i z hz
        exact V_.aload_n hx hb hz hd (hk _ _ _ _ h)
      · exact h.elim
    case istore j =>
      simp only [st_, s1_] at h
      split at h
      · exact V_.istore hx hb hd (by simpa [Nat.blt_eq] using hchk) (hk _ _ _ _ h)
      · exact h.elim
    case istore_n j =>
      simp only [st_, s1_] at h
      split at h
      · exact V_.istore_n hx hb hd (by simpa [Nat.blt_eq] using hchk) (hk _ _ _ _ h)
      · exact h.elim
    case iinc j n =>
      simp only [st_, ldi_] at h
      split at h
      · rename_i z hz
        exact V_.iinc hx hb hz hd (by simpa [Nat.blt_eq] using hchk) h.1 (hk _ _ _ _ h.2)
      · exact h.elim
    case iadd =>
      simp only [st_, s2_] at h
      split at h
      · exact V_.iadd hx hb hd h.1 (hk _ _ _ _ h.2)
      · exact h.elim
    case isub =>
      simp only [st_, s2_] at h
      split at h
      · exact V_.isub hx hb hd h.1 (hk _ _ _ _ h.2)
      · exact h.elim
    case imul =>
      simp only [st_, s2_] at h
      split at h
      · exact V_.imul hx hb hd h.1 (hk _ _ _ _ h.2)
      · exact h.elim
    case idiv =>
      simp only [st_, s2_] at h
      split at h
      · exact V_.idiv hx hb hd h.1 h.2.1 (hk _ _ _ _ h.2.2)
      · exact h.elim
    case irem =>
      simp only [st_, s2_] at h
      split at h
      · exact V_.irem hx hb hd h.1 h.2.1 (hk _ _ _ _ h.2.2)
      · exact h.elim
    case ishl =>
      simp only [st_, s2_] at h
      split at h
      · exact V_.ishl hx hb hd (hk _ _ _ _ h)
      · exact h.elim
    case ishr =>
      simp only [st_, s2_] at h
      split at h
      · exact V_.ishr hx hb hd (hk _ _ _ _ h)
      · exact h.elim
    case iand =>
      simp only [st_, s2_] at h
      split at h
      · exact V_.iand hx hb hd (hk _ _ _ _ h)
      · exact h.elim
    case ior =>
      simp only [st_, s2_] at h
      split at h
      · exact V_.ior hx hb hd (hk _ _ _ _ h)
      · exact h.elim
    case dup =>
      simp only [st_] at h
      split at h
      · exact V_.dup hx hb hd (hk _ _ _ _ h)
      · exact h.elim
    case dup2 =>
      simp only [st_] at h
      split at h
      · exact V_.dup2 hx hb hd (hk _ _ _ _ h)
      · exact h.elim
    case getfield j =>
      simp only [st_, gf_] at h
      split at h
      · rename_i t r
        cases ht : Nat.beq t L'.1 with
        | false => rw [ht] at h; exact h.elim
        | true =>
          rw [ht] at h
          have ht := Nat.eq_of_beq_eq_true ht
          subst ht
          simp only [cond_true] at h
          split at h
          · rename_i f hf
            split at h
            · rename_i hkd
              exact V_.getI hx hb hKl hts hown hK hf hkd hd (hk _ _ _ _ h)
            · rename_i z hkd
              exact V_.getA hx hb hKl hts hown hK hf hkd hd (hk _ _ _ _ h)
          · exact h.elim
      · exact h.elim
    case putfield j =>
      simp only [st_, s1_, gf_] at h
      split at h
      · split at h
        · rename_i t r
          cases ht : Nat.beq t L'.1 with
          | false => rw [ht] at h; exact h.elim
          | true =>
            rw [ht] at h
            have ht := Nat.eq_of_beq_eq_true ht
            subst ht
            simp only [cond_true] at h
            split at h
            · rename_i f hf
              split at h
              · rename_i hkd
                exact V_.putI hx hb hKl hts hown hK hAp hf hkd hd (hk _ _ _ _ h)
              · exact h.elim
            · exact h.elim
        · exact h.elim
      · exact h.elim
    case iaload =>
      simp only [st_, al_] at h
      split at h
      · split at h
        · rename_i b n hkd
          cases b with
          | true => exact h.elim
          | false =>
            simp only [beq_self_eq_true, cond_true] at h
            exact V_.iald hx hb hK (hfl _ _ hkd) hkd h.1 h.2.1 hd (hk _ _ _ _ h.2.2)
        · exact h.elim
      · exact h.elim
    case baload =>
      simp only [st_, al_] at h
      split at h
      · split at h
        · rename_i b n hkd
          cases b with
          | false => exact h.elim
          | true =>
            simp only [beq_self_eq_true, cond_true] at h
            exact V_.zald hx hb hK (hfl _ _ hkd) hkd h.1 h.2.1 hd (hk _ _ _ _ h.2.2)
        · exact h.elim
      · exact h.elim
    case iastore =>
      simp only [st_, as_] at h
      split at h
      · split at h
        · rename_i b n hkd
          cases b with
          | true => exact h.elim
          | false =>
            simp only [beq_self_eq_true, cond_true] at h
            exact V_.iast hx hb hK hAp (hfl _ _ hkd) hkd h.1 h.2.1 hd (hk _ _ _ _ h.2.2)
        · exact h.elim
      · exact h.elim
    case bastore =>
      simp only [st_, as_] at h
      split at h
      · split at h
        · rename_i b n hkd
          cases b with
          | false => exact h.elim
          | true =>
            simp only [beq_self_eq_true, cond_true] at h
            exact V_.zast hx hb hK hAp (hfl _ _ hkd) hkd h.1 h.2.1 h.2.2.1 hd (hk _ _ _ _ h.2.2.2)
        · exact h.elim
      · exact h.elim
    case if_icmp c0 o =>
      simp only [st_, s2_] at h
      split at h
      · exact V_.icmp hx hb hd (by simpa using hchk) (cmp_mono (hk _ _ _ _) (hk _ _ _ _) h)
      · exact h.elim
    case ifCond c0 o =>
      simp only [st_, s1_] at h
      split at h
      · exact V_.ifc hx hb hd (by simpa using hchk) (cmp_mono (hk _ _ _ _) (hk _ _ _ _) h)
      · exact h.elim
    case goto o =>
      exact V_.goto hx hb hd (by simpa using hchk) (hk _ _ _ _ h)
    case invokevirtual j =>
      simp only [st_, cv_] at h
      split at h
      · rename_i cs hcs
        cases hs : cs.2.1 with
        | true => rw [hs] at h; exact h.elim
        | false =>
          rw [hs] at h
          simp only [cond_false] at h
          split at h
          · rename_i as t r hpa
            cases ht : Nat.beq t L'.1 with
            | false => rw [ht] at h; exact h.elim
            | true =>
              rw [ht] at h
              have ht := Nat.eq_of_beq_eq_true ht
              subst ht
              simp only [cond_true, call_] at h
              cases h8 : Nat.ble r.length 8 with
              | false => rw [h8] at h; exact h.elim
              | true =>
                rw [h8] at h
                simp only [cond_true] at h
                exact V_.callV hx hb hml hKl hts hown hK hAp (hC _ (lk_mem hcs)) hs hpa (Nat.le_of_ble_eq_true h8) hd h.1 (fun z Y hz => hk _ _ _ _ (h.2 z Y hz))
          · exact h.elim
      · exact h.elim
    case invokestatic j =>
      simp only [st_, cst_] at h
      split at h
      · rename_i cs hcs
        cases hs : cs.2.1 with
        | false => rw [hs] at h; exact h.elim
        | true =>
          rw [hs] at h
          simp only [cond_true] at h
          split at h
          · rename_i as r hpa
            simp only [call_] at h
            cases h8 : Nat.ble r.length 8 with
            | false => rw [h8] at h; exact h.elim
            | true =>
              rw [h8] at h
              simp only [cond_true] at h
              exact V_.callS hx hb hml hts hown hK hAp (hC _ (lk_mem hcs)) hs hpa (Nat.le_of_ble_eq_true h8) hd h.1 (fun z Y hz => hk _ _ _ _ (h.2 z Y hz))
          · exact h.elim
      · exact h.elim
    case ireturn =>
      simp only [st_, s1_] at h
      split at h
      · split at h
        · exact V_.ret1 (rk := 0) hx hb hr rfl hlocks hK hd h
        · refine V_.ret1 (rk := 1) hx hb hr ?_ hlocks hK hd h.2
          rcases h.1 with e | e <;> rw [e] <;> decide
        · exact h.elim
      · exact h.elim
    case return_ =>
      simp only [st_] at h
      split at h
      · exact V_.ret0 hx hb hr hlocks hK hd h
      · exact h.elim
  · intro pc lv st X n h h1 h2 h3 H locs ls hP hS hl
    exact h (fun i v hv => h1 i v (lg_take _ _ _ _ hv)) h2 h3 H locs ls hP hS ⟨hl.1, hl.2.1, fun i v hv => hl.2.2 i v (lg_take _ _ _ _ hv)⟩
end
section
/-! A METHOD'S CONTRACT OUT OF A PURE PROOF -/
theorem en_args (adr : Nat → Nat) : ∀ (ws : List Vl_) (n i : Nat) (v : Vl_), lg_ (ws.map some) i = some v → (n + i, vl_ adr v) ∈ lv_args n (ws.map (vl_ adr))
  | [], n, i, v, h => by simp [lg_] at h
  | w :: ws, n, 0, v, h => by
    simp only [List.map_cons, lg_, Option.some.injEq] at h
    subst h
    simp only [List.map_cons, lv_args]
    exact List.mem_cons_self
  | w :: ws, n, i + 1, v, h => by
    simp only [List.map_cons, lg_] at h
    simp only [List.map_cons, lv_args]
    rw [vl_cat, if_neg (by decide)]
    have := en_args adr ws (n + 1) i v h
    rw [show n + (i + 1) = n + 1 + i by omega]
    exact List.mem_cons_of_mem _ this
theorem en_len (adr : Nat → Nat) : ∀ (ws : List Vl_), (lg_sl (ws.map (vl_ adr))).length = ws.length
  | [] => rfl
  | w :: ws => by
    have ih := en_len adr ws
    unfold lg_sl at ih ⊢
    rw [List.map_cons, List.flatMap_cons, vl_cat, if_neg (by decide), List.length_append, ih, List.length_cons]
    simp
    omega
theorem en_lh (adr : Nat → Nat) (ws : List Vl_) (n : Nat) (h : ws.length ≤ n) : Lh_ adr ((lg_sl (ws.map (vl_ adr)) ++ List.replicate (n - (lg_sl (ws.map (vl_ adr))).length) Slot.unset).toArray) n (ws.map some) := by
  have hl := lv_entry (ws.map (vl_ adr)) (n := n) (by rw [en_len]; exact h)
  refine ⟨hl.1, hl.2.1, fun i v hv => ?_⟩
  have := en_args adr ws 0 i v hv
  rw [Nat.zero_add] at this
  exact hl.2.2 _ this
def ew_ (stat : Bool) (L : Ly_) (as : List Int) : List Vl_ := bif stat then as.map Sum.inl else .inr L.1 :: as.map Sum.inl
theorem ew_av (stat : Bool) (adr : Nat → Nat) (L : Ly_) (as : List Int) : av_ stat adr L as = (ew_ stat L as).map (vl_ adr) := by
  cases stat
  · show _ :: _ = _ :: _
    rw [vl_args]
    rfl
  · show as.map _ = (as.map Sum.inl).map _
    rw [vl_args]
theorem ew_el (stat : Bool) (L : Ly_) (as : List Int) : el_ stat L as = (ew_ stat L as).map some := by
  cases stat
  · show _ :: _ = _ :: _
    rw [List.map_map]
    rfl
  · show as.map _ = (as.map Sum.inl).map _
    rw [List.map_map]
    rfl
theorem ew_rg {stat : Bool} {L : Ly_} {as : List Int} (h : ∀ a ∈ as, zR a) : rgL_ ((ew_ stat L as).map some) := by
  have key : ∀ (ws : List Vl_), (∀ w ∈ ws, rgV_ w) → rgL_ (ws.map some) := by
    intro ws
    induction ws with
    | nil => intro _ i v hv; simp [lg_] at hv
    | cons w ws ih =>
      intro hw i v hv
      cases i with
      | zero =>
        simp only [List.map_cons, lg_, Option.some.injEq] at hv
        subst hv
        exact hw w List.mem_cons_self
      | succ i => exact ih (fun w' h' => hw w' (List.mem_cons_of_mem _ h')) i v hv
  apply key
  intro w hw
  have hi : ∀ w ∈ as.map (Sum.inl : Int → Vl_), rgV_ w := by
    intro w hw
    obtain ⟨a, ha, rfl⟩ := List.mem_map.mp hw
    exact h a ha
  cases stat
  · rcases List.mem_cons.mp hw with e | e
    · rw [e]; trivial
    · exact hi w e
  · exact hi w hw
theorem Cn_of {ci : Nat} {C : String} {T : u_T} {L : Ly_} {y : MethodName} {cc : ByteArray} {nL lev : Nat} {cs : Cs_} (M : Mt_) (hKl : Kl_ ci C T L) (hfl : ∀ f z, L.2.1 f = some z → f < L.1) (hy : plainName y.cls = true) (hyC : y.cls = C) (hL : M.1 = L) (hrk : M.2.2.1 = cs.2.2.1)
    (hE : M.2.2.2.all (okE_ cc nL) = true) (hC : ∀ q ∈ M.2.1, Ck_ ci C L lev q.1 q.2) (hn : cs.1 + 1 ≤ nL ∨ (cs.2.1 = true ∧ cs.1 ≤ nL))
    (pure : ∀ (as : List Int) (X : St_), as.length = cs.1 → (∀ a ∈ as, zR a) → rgX_ X → cs.2.2.2.1 as X → ∀ G, Clo_ M (cs.2.2.2.2 as X) G → G 0 (el_ cs.2.1 L as) [] X) : Cn_ ci L y cc nL lev cs := by
  intro l D dd adr sz as X hlen hra hrX hAp hpre
  refine Met.ofW (cc := cc) (maxL := nL) (ret := rt_ cs.2.2.1) hy rfl ?_
  intro p e s m args below meth c s₁ B hml hv
  obtain ⟨rfl, hsz, hP, hK⟩ := hv
  have hr := B.returns
  have hts := atoms_spec (ws := ws_ y cc nL (rt_ cs.2.2.1)) B.pre
  have hts : ∀ w ∈ lw_all, w.before _ s = true := fun w h => hts w (List.mem_cons_of_mem _ h)
  have hown : s.vm.findClass y.cls = some m.cls := findClass_of_methodNamed B.named
  rw [hyC] at hown
  subst hsz
  have hclo := V_clo (p := p) (l := l) (e := e) (below := below) (Rt := cs.2.2.2.2 as X) B.exec B.bytes hml (by rw [hrk]; exact hr) B.notSynchronized hKl hts hown hK hAp hfl hL hE hC
  rw [hrk, ew_av] at hclo
  have hG := pure as X hlen hra hrX hpre _ hclo
  rw [ew_av, lg_entry_eq]
  rw [ew_el] at hG
  refine hG (ew_rg hra) (fun w hw => by cases hw) hrX s.heap [] _ hP va_S.rf (en_lh adr _ nL ?_)
  rcases hn with h | h
  · cases hs : cs.2.1 <;> simp [ew_] <;> omega
  · rw [h.1]
    simp [ew_]
    omega
end
section
/-! ContactNetwork: its layout; its methods as tables (printed by tools/gen_tabs.py out of the decode rows) -/
def kX : Nat → Option (Bool × Nat) := fun k => match k with
  | 0 => none
  | 1 => some (true, 10)
  | 2 => some (false, 10)
  | 3 => some (false, 10)
  | 4 => some (false, 10)
  | 5 => some (false, 10)
  | 6 => some (false, 10)
  | 7 => some (false, 10)
  | 8 => some (true, 1010)
  | 9 => none
  | 10 => some (false, 10)
  | 11 => some (false, 10)
  | 12 => some (false, 10)
  | 13 => some (false, 10)
  | 14 => some (true, 10)
  | 15 => some (true, 10)
  | 16 => some (false, 10)
  | 17 => some (false, 1000)
  | 18 => some (false, 1000)
  | 19 => none
  | 20 => none
  | 21 => some (false, 5)
  | 22 => some (false, 5)
  | 23 => some (false, 6)
  | 24 => some (false, 6)
  | _ => none
def LX : Ly_ := (25, kX, [(7, 1), (13, 2), (17, 3), (20, 4), (23, 5), (26, 6), (29, 7), (32, 8), (35, 10), (38, 11), (41, 12), (44, 13), (47, 14), (50, 15), (53, 16), (56, 17), (59, 18), (62, 21), (65, 22), (68, 23), (71, 24), (74, 19), (87, 0), (97, 20), (123, 9)], [(78, 1000000)])
set_option maxRecDepth 100000 in
theorem flX : ∀ q ∈ LX.2.2.1, q.2 < LX.1 ∧ Cond.fieldLink RX0 q.1 (TX0 q.2).1 (TX0 q.2).2.1 (TX0 q.2).2.2.1 ∈ lw_all := List.forall_mem_cons.mpr ⟨⟨by decide, q44⟩, List.forall_mem_cons.mpr ⟨⟨by decide, q45⟩, List.forall_mem_cons.mpr ⟨⟨by decide, q46⟩, List.forall_mem_cons.mpr ⟨⟨by decide, q47⟩, List.forall_mem_cons.mpr ⟨⟨by decide, q48⟩, List.forall_mem_cons.mpr ⟨⟨by decide, q49⟩, List.forall_mem_cons.mpr ⟨⟨by decide, q50⟩, List.forall_mem_cons.mpr ⟨⟨by decide, q51⟩, List.forall_mem_cons.mpr ⟨⟨by decide, q53⟩, List.forall_mem_cons.mpr ⟨⟨by decide, q54⟩, List.forall_mem_cons.mpr ⟨⟨by decide, q55⟩, List.forall_mem_cons.mpr ⟨⟨by decide, q56⟩, List.forall_mem_cons.mpr ⟨⟨by decide, q57⟩, List.forall_mem_cons.mpr ⟨⟨by decide, q58⟩, List.forall_mem_cons.mpr ⟨⟨by decide, q59⟩, List.forall_mem_cons.mpr ⟨⟨by decide, q60⟩, List.forall_mem_cons.mpr ⟨⟨by decide, q61⟩, List.forall_mem_cons.mpr ⟨⟨by decide, q64⟩, List.forall_mem_cons.mpr ⟨⟨by decide, q65⟩, List.forall_mem_cons.mpr ⟨⟨by decide, q66⟩, List.forall_mem_cons.mpr ⟨⟨by decide, q67⟩, List.forall_mem_cons.mpr ⟨⟨by decide, q62⟩, List.forall_mem_cons.mpr ⟨⟨by decide, q43⟩, List.forall_mem_cons.mpr ⟨⟨by decide, q63⟩, List.forall_mem_cons.mpr ⟨⟨by decide, q52⟩, fun _ h => absurd h List.not_mem_nil⟩⟩⟩⟩⟩⟩⟩⟩⟩⟩⟩⟩⟩⟩⟩⟩⟩⟩⟩⟩⟩⟩⟩⟩⟩
theorem cnX : ∀ q ∈ LX.2.2.2, zR q.2 ∧ Cond.constant RX0 q.1 (zI q.2) ∈ lw_all := List.forall_mem_cons.mpr ⟨⟨by decide, q162⟩, fun _ h => absurd h List.not_mem_nil⟩
set_option maxRecDepth 100000 in
theorem KlX : Kl_ 0 RX0 TX0 LX := ⟨rfl, in_X0, ⟨tyX0, tyX0_ok, by decide +kernel⟩, nmX0, by decide +kernel, flX, cnX⟩
theorem hfX : ∀ f z, LX.2.1 f = some z → f < LX.1 := by
  intro f z h
  refine Nat.lt_of_not_le fun hle => ?_
  have h2 : kX f = none := by
    have hle : 25 ≤ f := hle
    unfold kX
    split <;> first | rfl | omega
  have h3 : kX f = some z := h
  rw [h2] at h3
  cases h3
def EX_contact : List (Nat × Ent_) := [(0, .iload_n 1, 1, 0), (1, .invokestatic 130, 4, 0), (4, .ifCond .eq 17, 7, 21), (7, .iload_n 2, 8, 0), (8, .invokestatic 134, 11, 0), (11, .ifCond .eq 10, 14, 21), (14, .iload_n 3, 15, 0), (15, .invokestatic 137, 18, 0), (18, .ifCond .ne 5, 21, 23), (21, .iconst (-1), 22, 0), (22, .ireturn, 23, 0), (23, .aload_n 0, 24, 0), (24, .getfield 87, 27, 0), (27, .bipush 10, 29, 0), (29, .if_icmp .lt 6, 32, 35), (32, .bipush (-3), 34, 0), (34, .ireturn, 35, 0), (35, .aload_n 0, 36, 0), (36, .getfield 87, 39, 0), (39, .istore 4, 41, 0), (41, .aload_n 0, 42, 0), (42, .dup, 43, 0), (43, .getfield 87, 46, 0), (46, .iconst 1, 47, 0), (47, .iadd, 48, 0), (48, .putfield 87, 51, 0), (51, .aload_n 0, 52, 0), (52, .getfield 13, 55, 0), (55, .iload 4, 57, 0), (57, .iload_n 1, 58, 0), (58, .bipush 6, 60, 0), (60, .idiv, 61, 0), (61, .iastore, 62, 0), (62, .aload_n 0, 63, 0), (63, .getfield 17, 66, 0), (66, .iload 4, 68, 0), (68, .iload_n 1, 69, 0), (69, .bipush 6, 71, 0), (71, .irem, 72, 0), (72, .iastore, 73, 0), (73, .aload_n 0, 74, 0), (74, .getfield 20, 77, 0), (77, .iload 4, 79, 0), (79, .iload_n 2, 80, 0), (80, .bipush 101, 82, 0), (82, .idiv, 83, 0), (83, .iastore, 84, 0), (84, .aload_n 0, 85, 0), (85, .getfield 23, 88, 0), (88, .iload 4, 90, 0), (90, .iload_n 2, 91, 0), (91, .bipush 101, 93, 0), (93, .irem, 94, 0), (94, .iastore, 95, 0), (95, .aload_n 0, 96, 0), (96, .getfield 26, 99, 0), (99, .iload 4, 101, 0), (101, .iload_n 3, 102, 0), (102, .bipush 10, 104, 0), (104, .idiv, 105, 0), (105, .iastore, 106, 0), (106, .aload_n 0, 107, 0), (107, .getfield 29, 110, 0), (110, .iload 4, 112, 0), (112, .iload_n 3, 113, 0), (113, .bipush 10, 115, 0), (115, .irem, 116, 0), (116, .iastore, 117, 0), (117, .aload_n 0, 118, 0), (118, .invokevirtual 140, 121, 0), (121, .iload 4, 123, 0), (123, .ireturn, 124, 0)]
set_option maxRecDepth 100000 in
theorem hX_contact : EX_contact.all (okE_ cX0_contact 5) = true := by decide +kernel
def EX_areEnds : List (Nat × Ent_) := [(0, .iload_n 0, 1, 0), (1, .ifCond .lt 24, 4, 25), (4, .iload_n 0, 5, 0), (5, .bipush 36, 7, 0), (7, .if_icmp .ge 18, 10, 25), (10, .iload_n 0, 11, 0), (11, .bipush 6, 13, 0), (13, .idiv, 14, 0), (14, .iload_n 0, 15, 0), (15, .bipush 6, 17, 0), (17, .irem, 18, 0), (18, .if_icmp .eq 7, 21, 25), (21, .iconst 1, 22, 0), (22, .goto 4, 25, 26), (25, .iconst 0, 26, 0), (26, .ireturn, 27, 0)]
set_option maxRecDepth 100000 in
theorem hX_areEnds : EX_areEnds.all (okE_ cX0_areEnds 1) = true := by decide +kernel
def EX_isSpan : List (Nat × Ent_) := [(0, .iload_n 0, 1, 0), (1, .ifCond .lt 27, 4, 28), (4, .iload_n 0, 5, 0), (5, .bipush 101, 7, 0), (7, .idiv, 8, 0), (8, .iload_n 0, 9, 0), (9, .bipush 101, 11, 0), (11, .irem, 12, 0), (12, .if_icmp .ge 16, 15, 28), (15, .iload_n 0, 16, 0), (16, .bipush 101, 18, 0), (18, .idiv, 19, 0), (19, .bipush 101, 21, 0), (21, .if_icmp .ge 7, 24, 28), (24, .iconst 1, 25, 0), (25, .goto 4, 28, 29), (28, .iconst 0, 29, 0), (29, .ireturn, 30, 0)]
set_option maxRecDepth 100000 in
theorem hX_isSpan : EX_isSpan.all (okE_ cX0_isSpan 1) = true := by decide +kernel
def EX_areTerms : List (Nat × Ent_) := [(0, .iload_n 0, 1, 0), (1, .bipush 10, 3, 0), (3, .if_icmp .lt 13, 6, 16), (6, .iload_n 0, 7, 0), (7, .bipush 100, 9, 0), (9, .if_icmp .ge 7, 12, 16), (12, .iconst 1, 13, 0), (13, .goto 4, 16, 17), (16, .iconst 0, 17, 0), (17, .ireturn, 18, 0)]
set_option maxRecDepth 100000 in
theorem hX_areTerms : EX_areTerms.all (okE_ cX0_areTerms 1) = true := by decide +kernel
def EX_retry : List (Nat × Ent_) := [(0, .iconst 0, 1, 0), (1, .istore_n 1, 2, 0), (2, .iload_n 1, 3, 0), (3, .aload_n 0, 4, 0), (4, .getfield 123, 7, 0), (7, .if_icmp .ge 23, 10, 30), (10, .aload_n 0, 11, 0), (11, .getfield 47, 14, 0), (14, .iload_n 1, 15, 0), (15, .baload, 16, 0), (16, .ifCond .ne 8, 19, 24), (19, .aload_n 0, 20, 0), (20, .iload_n 1, 21, 0), (21, .invokevirtual 126, 24, 0), (24, .iinc 1 1, 27, 0), (27, .goto (-25), 30, 2), (30, .return_, 31, 0)]
set_option maxRecDepth 100000 in
theorem hX_retry : EX_retry.all (okE_ cX0_retry 2) = true := by decide +kernel
def EX_plan : List (Nat × Ent_) := [(0, .aload_n 0, 1, 0), (1, .getfield 74, 4, 0), (4, .istore_n 2, 5, 0), (5, .aload_n 0, 6, 0), (6, .getfield 53, 9, 0), (9, .iload_n 1, 10, 0), (10, .iaload, 11, 0), (11, .ifCond .le 34, 14, 45), (14, .aload_n 0, 15, 0), (15, .iload_n 1, 16, 0), (16, .aload_n 0, 17, 0), (17, .getfield 53, 20, 0), (20, .iload_n 1, 21, 0), (21, .iaload, 22, 0), (22, .iconst 1, 23, 0), (23, .isub, 24, 0), (24, .invokevirtual 108, 27, 0), (27, .istore_n 3, 28, 0), (28, .iload_n 3, 29, 0), (29, .aload_n 0, 30, 0), (30, .getfield 74, 33, 0), (33, .if_icmp .le 7, 36, 40), (36, .iload_n 3, 37, 0), (37, .goto 7, 40, 44), (40, .aload_n 0, 41, 0), (41, .getfield 74, 44, 0), (44, .istore_n 2, 45, 0), (45, .aload_n 0, 46, 0), (46, .iload_n 1, 47, 0), (47, .invokevirtual 111, 50, 0), (50, .istore_n 3, 51, 0), (51, .aload_n 0, 52, 0), (52, .getfield 47, 55, 0), (55, .iload_n 1, 56, 0), (56, .iconst 0, 57, 0), (57, .bastore, 58, 0), (58, .iload_n 3, 59, 0), (59, .aload_n 0, 60, 0), (60, .getfield 38, 63, 0), (63, .iload_n 1, 64, 0), (64, .iaload, 65, 0), (65, .if_icmp .ne 24, 68, 89), (68, .aload_n 0, 69, 0), (69, .getfield 47, 72, 0), (72, .iload_n 1, 73, 0), (73, .aload_n 0, 74, 0), (74, .getfield 53, 77, 0), (77, .iload_n 1, 78, 0), (78, .iaload, 79, 0), (79, .ifCond .le 7, 82, 86), (82, .iconst 1, 83, 0), (83, .goto 4, 86, 87), (86, .iconst 0, 87, 0), (87, .bastore, 88, 0), (88, .return_, 89, 0), (89, .aload_n 0, 90, 0), (90, .iload_n 3, 91, 0), (91, .aload_n 0, 92, 0), (92, .getfield 38, 95, 0), (95, .iload_n 1, 96, 0), (96, .iaload, 97, 0), (97, .iload_n 2, 98, 0), (98, .aload_n 0, 99, 0), (99, .getfield 41, 102, 0), (102, .iload_n 1, 103, 0), (103, .iaload, 104, 0), (104, .invokevirtual 115, 107, 0), (107, .istore 4, 109, 0), (109, .iload 4, 111, 0), (111, .ldc 78, 113, 0), (113, .if_icmp .ge 14, 116, 127), (116, .iload 4, 118, 0), (118, .aload_n 0, 119, 0), (119, .getfield 44, 122, 0), (122, .iload_n 1, 123, 0), (123, .iaload, 124, 0), (124, .if_icmp .le 4, 127, 128), (127, .return_, 128, 0), (128, .aload_n 0, 129, 0), (129, .getfield 47, 132, 0), (132, .iload_n 1, 133, 0), (133, .iconst 1, 134, 0), (134, .bastore, 135, 0), (135, .iconst 0, 136, 0), (136, .istore 5, 138, 0), (138, .iload 5, 140, 0), (140, .aload_n 0, 141, 0), (141, .getfield 97, 144, 0), (144, .if_icmp .ge 110, 147, 254), (147, .aload_n 0, 148, 0), (148, .getfield 53, 151, 0), (151, .iload_n 1, 152, 0), (152, .iaload, 153, 0), (153, .bipush 100, 155, 0), (155, .if_icmp .ge 99, 158, 254), (158, .aload_n 0, 159, 0), (159, .getfield 62, 162, 0), (162, .iload 5, 164, 0), (164, .iaload, 165, 0), (165, .istore 6, 167, 0), (167, .aload_n 0, 168, 0), (168, .getfield 56, 171, 0), (171, .bipush 100, 173, 0), (173, .iload_n 1, 174, 0), (174, .imul, 175, 0), (175, .aload_n 0, 176, 0), (176, .getfield 53, 179, 0), (179, .iload_n 1, 180, 0), (180, .iaload, 181, 0), (181, .iadd, 182, 0), (182, .iload 6, 184, 0), (184, .iastore, 185, 0), (185, .aload_n 0, 186, 0), (186, .getfield 59, 189, 0), (189, .bipush 100, 191, 0), (191, .iload_n 1, 192, 0), (192, .imul, 193, 0), (193, .aload_n 0, 194, 0), (194, .getfield 53, 197, 0), (197, .iload_n 1, 198, 0), (198, .iaload, 199, 0), (199, .iadd, 200, 0), (200, .aload_n 0, 201, 0), (201, .getfield 65, 204, 0), (204, .iload 5, 206, 0), (206, .iaload, 207, 0), (207, .iastore, 208, 0), (208, .aload_n 0, 209, 0), (209, .getfield 53, 212, 0), (212, .iload_n 1, 213, 0), (213, .dup2, 214, 0), (214, .iaload, 215, 0), (215, .iconst 1, 216, 0), (216, .iadd, 217, 0), (217, .iastore, 218, 0), (218, .aload_n 0, 219, 0), (219, .iload 6, 221, 0), (221, .aload_n 0, 222, 0), (222, .getfield 41, 225, 0), (225, .iload_n 1, 226, 0), (226, .iaload, 227, 0), (227, .invokevirtual 79, 230, 0), (230, .istore 7, 232, 0), (232, .aload_n 0, 233, 0), (233, .iload 6, 235, 0), (235, .aload_n 0, 236, 0), (236, .getfield 65, 239, 0), (239, .iload 5, 241, 0), (241, .iaload, 242, 0), (242, .iload 7, 244, 0), (244, .iconst 1, 245, 0), (245, .invokevirtual 119, 248, 0), (248, .iinc 5 1, 251, 0), (251, .goto (-113), 254, 138), (254, .return_, 255, 0)]
set_option maxRecDepth 100000 in
theorem hX_plan : EX_plan.all (okE_ cX0_plan 8) = true := by decide +kernel
def EX_comesInBy : List (Nat × Ent_) := [(0, .aload_n 0, 1, 0), (1, .getfield 56, 4, 0), (4, .bipush 100, 6, 0), (6, .iload_n 1, 7, 0), (7, .imul, 8, 0), (8, .iload_n 2, 9, 0), (9, .iadd, 10, 0), (10, .iaload, 11, 0), (11, .istore_n 3, 12, 0), (12, .aload_n 0, 13, 0), (13, .getfield 59, 16, 0), (16, .bipush 100, 18, 0), (18, .iload_n 1, 19, 0), (19, .imul, 20, 0), (20, .iload_n 2, 21, 0), (21, .iadd, 22, 0), (22, .iaload, 23, 0), (23, .aload_n 0, 24, 0), (24, .iload_n 3, 25, 0), (25, .aload_n 0, 26, 0), (26, .getfield 41, 29, 0), (29, .iload_n 1, 30, 0), (30, .iaload, 31, 0), (31, .invokevirtual 79, 34, 0), (34, .iadd, 35, 0), (35, .aload_n 0, 36, 0), (36, .getfield 29, 39, 0), (39, .iload_n 3, 40, 0), (40, .iaload, 41, 0), (41, .iadd, 42, 0), (42, .ireturn, 43, 0)]
set_option maxRecDepth 100000 in
theorem hX_comesInBy : EX_comesInBy.all (okE_ cX0_comesInBy 4) = true := by decide +kernel
def EX_ticksFor : List (Nat × Ent_) := [(0, .iload_n 2, 1, 0), (1, .aload_n 0, 2, 0), (2, .getfield 26, 5, 0), (5, .iload_n 1, 6, 0), (6, .iaload, 7, 0), (7, .iadd, 8, 0), (8, .iconst 1, 9, 0), (9, .isub, 10, 0), (10, .aload_n 0, 11, 0), (11, .getfield 26, 14, 0), (14, .iload_n 1, 15, 0), (15, .iaload, 16, 0), (16, .idiv, 17, 0), (17, .ireturn, 18, 0)]
set_option maxRecDepth 100000 in
theorem hX_ticksFor : EX_ticksFor.all (okE_ cX0_ticksFor 3) = true := by decide +kernel
def EX_lastNode : List (Nat × Ent_) := [(0, .aload_n 0, 1, 0), (1, .getfield 53, 4, 0), (4, .iload_n 1, 5, 0), (5, .iaload, 6, 0), (6, .ifCond .ne 12, 9, 18), (9, .aload_n 0, 10, 0), (10, .getfield 35, 13, 0), (13, .iload_n 1, 14, 0), (14, .iaload, 15, 0), (15, .goto 26, 18, 41), (18, .aload_n 0, 19, 0), (19, .getfield 17, 22, 0), (22, .aload_n 0, 23, 0), (23, .getfield 56, 26, 0), (26, .bipush 100, 28, 0), (28, .iload_n 1, 29, 0), (29, .imul, 30, 0), (30, .aload_n 0, 31, 0), (31, .getfield 53, 34, 0), (34, .iload_n 1, 35, 0), (35, .iaload, 36, 0), (36, .iadd, 37, 0), (37, .iconst 1, 38, 0), (38, .isub, 39, 0), (39, .iaload, 40, 0), (40, .iaload, 41, 0), (41, .ireturn, 42, 0)]
set_option maxRecDepth 100000 in
theorem hX_lastNode : EX_lastNode.all (okE_ cX0_lastNode 2) = true := by decide +kernel
def EX_findRoute : List (Nat × Ent_) := [(0, .aload_n 0, 1, 0), (1, .iload_n 1, 2, 0), (2, .iload_n 3, 3, 0), (3, .iload 4, 5, 0), (5, .iconst 5, 6, 0), (6, .invokevirtual 93, 9, 0), (9, .aload_n 0, 10, 0), (10, .getfield 68, 13, 0), (13, .iload_n 2, 14, 0), (14, .iaload, 15, 0), (15, .istore 5, 17, 0), (17, .iload 5, 19, 0), (19, .ldc 78, 21, 0), (21, .if_icmp .lt 6, 24, 27), (24, .ldc 78, 26, 0), (26, .ireturn, 27, 0), (27, .iconst 1, 28, 0), (28, .istore 6, 30, 0), (30, .aload_n 0, 31, 0), (31, .iload_n 1, 32, 0), (32, .iload_n 3, 33, 0), (33, .iload 4, 35, 0), (35, .iload 6, 37, 0), (37, .invokevirtual 93, 40, 0), (40, .iload 6, 42, 0), (42, .iconst 5, 43, 0), (43, .if_icmp .ge 30, 46, 73), (46, .aload_n 0, 47, 0), (47, .getfield 68, 50, 0), (50, .iload_n 2, 51, 0), (51, .iaload, 52, 0), (52, .iload 5, 54, 0), (54, .if_icmp .le 19, 57, 73), (57, .iinc 6 1, 60, 0), (60, .aload_n 0, 61, 0), (61, .iload_n 1, 62, 0), (62, .iload_n 3, 63, 0), (63, .iload 4, 65, 0), (65, .iload 6, 67, 0), (67, .invokevirtual 93, 70, 0), (70, .goto (-30), 73, 40), (73, .aload_n 0, 74, 0), (74, .iconst 0, 75, 0), (75, .putfield 97, 78, 0), (78, .iload_n 1, 79, 0), (79, .istore 7, 81, 0), (81, .iload_n 3, 82, 0), (82, .istore 8, 84, 0), (84, .iload 6, 86, 0), (86, .istore 9, 88, 0), (88, .iload 9, 90, 0), (90, .ifCond .le 107, 93, 197), (93, .aload_n 0, 94, 0), (94, .iload 7, 96, 0), (96, .iload_n 2, 97, 0), (97, .iload 8, 99, 0), (99, .iload 4, 101, 0), (101, .iload 9, 103, 0), (103, .iload 5, 105, 0), (105, .invokevirtual 100, 108, 0), (108, .istore 10, 110, 0), (110, .aload_n 0, 111, 0), (111, .iload 10, 113, 0), (113, .iload 4, 115, 0), (115, .invokevirtual 79, 118, 0), (118, .istore 11, 120, 0), (120, .aload_n 0, 121, 0), (121, .getfield 62, 124, 0), (124, .aload_n 0, 125, 0), (125, .getfield 97, 128, 0), (128, .iload 10, 130, 0), (130, .iastore, 131, 0), (131, .aload_n 0, 132, 0), (132, .getfield 65, 135, 0), (135, .aload_n 0, 136, 0), (136, .getfield 97, 139, 0), (139, .aload_n 0, 140, 0), (140, .iload 10, 142, 0), (142, .iload 8, 144, 0), (144, .iload 11, 146, 0), (146, .invokevirtual 83, 149, 0), (149, .iastore, 150, 0), (150, .aload_n 0, 151, 0), (151, .getfield 65, 154, 0), (154, .aload_n 0, 155, 0), (155, .getfield 97, 158, 0), (158, .iaload, 159, 0), (159, .iload 11, 161, 0), (161, .iadd, 162, 0), (162, .aload_n 0, 163, 0), (163, .getfield 29, 166, 0), (166, .iload 10, 168, 0), (168, .iaload, 169, 0), (169, .iadd, 170, 0), (170, .istore 8, 172, 0), (172, .aload_n 0, 173, 0), (173, .getfield 17, 176, 0), (176, .iload 10, 178, 0), (178, .iaload, 179, 0), (179, .istore 7, 181, 0), (181, .aload_n 0, 182, 0), (182, .dup, 183, 0), (183, .getfield 97, 186, 0), (186, .iconst 1, 187, 0), (187, .iadd, 188, 0), (188, .putfield 97, 191, 0), (191, .iinc 9 (-1), 194, 0), (194, .goto (-106), 197, 88), (197, .iload 5, 199, 0), (199, .ireturn, 200, 0)]
set_option maxRecDepth 100000 in
theorem hX_findRoute : EX_findRoute.all (okE_ cX0_findRoute 12) = true := by decide +kernel
def EX_spread : List (Nat × Ent_) := [(0, .iconst 0, 1, 0), (1, .istore 5, 3, 0), (3, .iload 5, 5, 0), (5, .bipush 6, 7, 0), (7, .if_icmp .ge 28, 10, 35), (10, .aload_n 0, 11, 0), (11, .getfield 68, 14, 0), (14, .iload 5, 16, 0), (16, .iload 5, 18, 0), (18, .iload_n 1, 19, 0), (19, .if_icmp .ne 7, 22, 26), (22, .iload_n 2, 23, 0), (23, .goto 5, 26, 28), (26, .ldc 78, 28, 0), (28, .iastore, 29, 0), (29, .iinc 5 1, 32, 0), (32, .goto (-29), 35, 3), (35, .iconst 0, 36, 0), (36, .istore 5, 38, 0), (38, .iload 5, 40, 0), (40, .iload 4, 42, 0), (42, .if_icmp .ge 124, 45, 166), (45, .iconst 0, 46, 0), (46, .istore 6, 48, 0), (48, .iload 6, 50, 0), (50, .bipush 6, 52, 0), (52, .if_icmp .ge 23, 55, 75), (55, .aload_n 0, 56, 0), (56, .getfield 71, 59, 0), (59, .iload 6, 61, 0), (61, .aload_n 0, 62, 0), (62, .getfield 68, 65, 0), (65, .iload 6, 67, 0), (67, .iaload, 68, 0), (68, .iastore, 69, 0), (69, .iinc 6 1, 72, 0), (72, .goto (-24), 75, 48), (75, .iconst 0, 76, 0), (76, .istore 6, 78, 0), (78, .iload 6, 80, 0), (80, .aload_n 0, 81, 0), (81, .getfield 87, 84, 0), (84, .if_icmp .ge 76, 87, 160), (87, .aload_n 0, 88, 0), (88, .iload 6, 90, 0), (90, .aload_n 0, 91, 0), (91, .getfield 71, 94, 0), (94, .aload_n 0, 95, 0), (95, .getfield 13, 98, 0), (98, .iload 6, 100, 0), (100, .iaload, 101, 0), (101, .iaload, 102, 0), (102, .iload_n 3, 103, 0), (103, .invokevirtual 90, 106, 0), (106, .istore 7, 108, 0), (108, .aload_n 0, 109, 0), (109, .getfield 68, 112, 0), (112, .aload_n 0, 113, 0), (113, .getfield 17, 116, 0), (116, .iload 6, 118, 0), (118, .iaload, 119, 0), (119, .iload 7, 121, 0), (121, .aload_n 0, 122, 0), (122, .getfield 68, 125, 0), (125, .aload_n 0, 126, 0), (126, .getfield 17, 129, 0), (129, .iload 6, 131, 0), (131, .iaload, 132, 0), (132, .iaload, 133, 0), (133, .if_icmp .ge 8, 136, 141), (136, .iload 7, 138, 0), (138, .goto 15, 141, 153), (141, .aload_n 0, 142, 0), (142, .getfield 68, 145, 0), (145, .aload_n 0, 146, 0), (146, .getfield 17, 149, 0), (149, .iload 6, 151, 0), (151, .iaload, 152, 0), (152, .iaload, 153, 0), (153, .iastore, 154, 0), (154, .iinc 6 1, 157, 0), (157, .goto (-79), 160, 78), (160, .iinc 5 1, 163, 0), (163, .goto (-125), 166, 38), (166, .return_, 167, 0)]
set_option maxRecDepth 100000 in
theorem hX_spread : EX_spread.all (okE_ cX0_spread 8) = true := by decide +kernel
def EX_comingIn : List (Nat × Ent_) := [(0, .aload_n 0, 1, 0), (1, .getfield 7, 4, 0), (4, .iload_n 1, 5, 0), (5, .baload, 6, 0), (6, .ifCond .ne 9, 9, 15), (9, .iload_n 2, 10, 0), (10, .ldc 78, 12, 0), (12, .if_icmp .lt 6, 15, 18), (15, .ldc 78, 17, 0), (17, .ireturn, 18, 0), (18, .aload_n 0, 19, 0), (19, .iload_n 1, 20, 0), (20, .iload_n 3, 21, 0), (21, .invokevirtual 79, 24, 0), (24, .istore 4, 26, 0), (26, .aload_n 0, 27, 0), (27, .iload_n 1, 28, 0), (28, .iload_n 2, 29, 0), (29, .iload 4, 31, 0), (31, .invokevirtual 83, 34, 0), (34, .istore 5, 36, 0), (36, .iload 5, 38, 0), (38, .ifCond .ge 8, 41, 46), (41, .ldc 78, 43, 0), (43, .goto 15, 46, 58), (46, .iload 5, 48, 0), (48, .iload 4, 50, 0), (50, .iadd, 51, 0), (51, .aload_n 0, 52, 0), (52, .getfield 29, 55, 0), (55, .iload_n 1, 56, 0), (56, .iaload, 57, 0), (57, .iadd, 58, 0), (58, .ireturn, 59, 0)]
set_option maxRecDepth 100000 in
theorem hX_comingIn : EX_comingIn.all (okE_ cX0_comingIn 6) = true := by decide +kernel
def EX_firstBegin : List (Nat × Ent_) := [(0, .iload_n 2, 1, 0), (1, .aload_n 0, 2, 0), (2, .getfield 20, 5, 0), (5, .iload_n 1, 6, 0), (6, .iaload, 7, 0), (7, .if_icmp .le 7, 10, 14), (10, .iload_n 2, 11, 0), (11, .goto 9, 14, 20), (14, .aload_n 0, 15, 0), (15, .getfield 20, 18, 0), (18, .iload_n 1, 19, 0), (19, .iaload, 20, 0), (20, .istore 4, 22, 0), (22, .iconst 0, 23, 0), (23, .istore 5, 25, 0), (25, .iload 4, 27, 0), (27, .istore 6, 29, 0), (29, .iload 6, 31, 0), (31, .aload_n 0, 32, 0), (32, .getfield 23, 35, 0), (35, .iload_n 1, 36, 0), (36, .iaload, 37, 0), (37, .if_icmp .ge 47, 40, 84), (40, .aload_n 0, 41, 0), (41, .getfield 32, 44, 0), (44, .bipush 101, 46, 0), (46, .iload_n 1, 47, 0), (47, .imul, 48, 0), (48, .iload 6, 50, 0), (50, .iadd, 51, 0), (51, .baload, 52, 0), (52, .ifCond .eq 7, 55, 59), (55, .iconst 0, 56, 0), (56, .goto 7, 59, 63), (59, .iload 5, 61, 0), (61, .iconst 1, 62, 0), (62, .iadd, 63, 0), (63, .istore 5, 65, 0), (65, .iload 5, 67, 0), (67, .iload_n 3, 68, 0), (68, .if_icmp .ne 10, 71, 78), (71, .iload 6, 73, 0), (73, .iload_n 3, 74, 0), (74, .isub, 75, 0), (75, .iconst 1, 76, 0), (76, .iadd, 77, 0), (77, .ireturn, 78, 0), (78, .iinc 6 1, 81, 0), (81, .goto (-52), 84, 29), (84, .iconst (-1), 85, 0), (85, .ireturn, 86, 0)]
set_option maxRecDepth 100000 in
theorem hX_firstBegin : EX_firstBegin.all (okE_ cX0_firstBegin 7) = true := by decide +kernel
def EX_nextContact : List (Nat × Ent_) := [(0, .iconst 0, 1, 0), (1, .istore 7, 3, 0), (3, .iload 7, 5, 0), (5, .aload_n 0, 6, 0), (6, .getfield 87, 9, 0), (9, .iconst 1, 10, 0), (10, .isub, 11, 0), (11, .if_icmp .ge 27, 14, 38), (14, .aload_n 0, 15, 0), (15, .iload 7, 17, 0), (17, .iload_n 1, 18, 0), (18, .iload_n 2, 19, 0), (19, .iload_n 3, 20, 0), (20, .iload 4, 22, 0), (22, .iload 5, 24, 0), (24, .iload 6, 26, 0), (26, .invokevirtual 104, 29, 0), (29, .ifCond .ne 9, 32, 38), (32, .iinc 7 1, 35, 0), (35, .goto (-32), 38, 3), (38, .iload 7, 40, 0), (40, .ireturn, 41, 0)]
set_option maxRecDepth 100000 in
theorem hX_nextContact : EX_nextContact.all (okE_ cX0_nextContact 8) = true := by decide +kernel
def EX_leadsOn : List (Nat × Ent_) := [(0, .aload_n 0, 1, 0), (1, .getfield 13, 4, 0), (4, .iload_n 1, 5, 0), (5, .iaload, 6, 0), (6, .iload_n 2, 7, 0), (7, .if_icmp .eq 5, 10, 12), (10, .iconst 0, 11, 0), (11, .ireturn, 12, 0), (12, .aload_n 0, 13, 0), (13, .iload_n 1, 14, 0), (14, .iload 4, 16, 0), (16, .iload 5, 18, 0), (18, .invokevirtual 90, 21, 0), (21, .istore 8, 23, 0), (23, .iload 8, 25, 0), (25, .ldc 78, 27, 0), (27, .if_icmp .lt 5, 30, 32), (30, .iconst 0, 31, 0), (31, .ireturn, 32, 0), (32, .aload_n 0, 33, 0), (33, .aload_n 0, 34, 0), (34, .getfield 17, 37, 0), (37, .iload_n 1, 38, 0), (38, .iaload, 39, 0), (39, .iload 8, 41, 0), (41, .iload 5, 43, 0), (43, .iload 6, 45, 0), (45, .iconst 1, 46, 0), (46, .isub, 47, 0), (47, .invokevirtual 93, 50, 0), (50, .aload_n 0, 51, 0), (51, .getfield 68, 54, 0), (54, .iload_n 3, 55, 0), (55, .iaload, 56, 0), (56, .iload 7, 58, 0), (58, .if_icmp .gt 7, 61, 65), (61, .iconst 1, 62, 0), (62, .goto 4, 65, 66), (65, .iconst 0, 66, 0), (66, .ireturn, 67, 0)]
set_option maxRecDepth 100000 in
theorem hX_leadsOn : EX_leadsOn.all (okE_ cX0_leadsOn 9) = true := by decide +kernel
def EX_setBusy : List (Nat × Ent_) := [(0, .iload_n 2, 1, 0), (1, .istore 5, 3, 0), (3, .iload 5, 5, 0), (5, .iload_n 2, 6, 0), (6, .iload_n 3, 7, 0), (7, .iadd, 8, 0), (8, .if_icmp .ge 23, 11, 31), (11, .aload_n 0, 12, 0), (12, .getfield 32, 15, 0), (15, .bipush 101, 17, 0), (17, .iload_n 1, 18, 0), (18, .imul, 19, 0), (19, .iload 5, 21, 0), (21, .iadd, 22, 0), (22, .iload 4, 24, 0), (24, .bastore, 25, 0), (25, .iinc 5 1, 28, 0), (28, .goto (-25), 31, 3), (31, .return_, 32, 0)]
set_option maxRecDepth 100000 in
theorem hX_setBusy : EX_setBusy.all (okE_ cX0_setBusy 6) = true := by decide +kernel
def EX_cancel : List (Nat × Ent_) := [(0, .aload_n 0, 1, 0), (1, .iload_n 1, 2, 0), (2, .invokevirtual 143, 5, 0), (5, .ifCond .eq 12, 8, 17), (8, .aload_n 0, 9, 0), (9, .getfield 7, 12, 0), (12, .iload_n 1, 13, 0), (13, .baload, 14, 0), (14, .ifCond .eq 5, 17, 19), (17, .iconst (-1), 18, 0), (18, .ireturn, 19, 0), (19, .aload_n 0, 20, 0), (20, .getfield 7, 23, 0), (23, .iload_n 1, 24, 0), (24, .iconst 1, 25, 0), (25, .bastore, 26, 0), (26, .iconst 0, 27, 0), (27, .istore_n 2, 28, 0), (28, .iconst 0, 29, 0), (29, .istore_n 3, 30, 0), (30, .iload_n 3, 31, 0), (31, .aload_n 0, 32, 0), (32, .getfield 123, 35, 0), (35, .if_icmp .ge 48, 38, 83), (38, .aload_n 0, 39, 0), (39, .iload_n 3, 40, 0), (40, .iload_n 1, 41, 0), (41, .invokevirtual 146, 44, 0), (44, .istore 4, 46, 0), (46, .aload_n 0, 47, 0), (47, .getfield 50, 50, 0), (50, .iload_n 3, 51, 0), (51, .iload 4, 53, 0), (53, .ifCond .lt 7, 56, 60), (56, .iconst 1, 57, 0), (57, .goto 4, 60, 61), (60, .iconst 0, 61, 0), (61, .bastore, 62, 0), (62, .iload 4, 64, 0), (64, .ifCond .lt 13, 67, 77), (67, .aload_n 0, 68, 0), (68, .iload_n 3, 69, 0), (69, .iload 4, 71, 0), (71, .invokevirtual 149, 74, 0), (74, .iinc 2 1, 77, 0), (77, .iinc 3 1, 80, 0), (80, .goto (-50), 83, 30), (83, .iconst 0, 84, 0), (84, .istore_n 3, 85, 0), (85, .iload_n 3, 86, 0), (86, .aload_n 0, 87, 0), (87, .getfield 123, 90, 0), (90, .if_icmp .ge 23, 93, 113), (93, .aload_n 0, 94, 0), (94, .getfield 50, 97, 0), (97, .iload_n 3, 98, 0), (98, .baload, 99, 0), (99, .ifCond .eq 8, 102, 107), (102, .aload_n 0, 103, 0), (103, .iload_n 3, 104, 0), (104, .invokevirtual 126, 107, 0), (107, .iinc 3 1, 110, 0), (110, .goto (-25), 113, 85), (113, .aload_n 0, 114, 0), (114, .invokevirtual 140, 117, 0), (117, .iload_n 2, 118, 0), (118, .ireturn, 119, 0)]
set_option maxRecDepth 100000 in
theorem hX_cancel : EX_cancel.all (okE_ cX0_cancel 5) = true := by decide +kernel
def EX_isContact : List (Nat × Ent_) := [(0, .iload_n 1, 1, 0), (1, .ifCond .lt 15, 4, 16), (4, .iload_n 1, 5, 0), (5, .aload_n 0, 6, 0), (6, .getfield 87, 9, 0), (9, .if_icmp .ge 7, 12, 16), (12, .iconst 1, 13, 0), (13, .goto 4, 16, 17), (16, .iconst 0, 17, 0), (17, .ireturn, 18, 0)]
set_option maxRecDepth 100000 in
theorem hX_isContact : EX_isContact.all (okE_ cX0_isContact 2) = true := by decide +kernel
def EX_openBooking : List (Nat × Ent_) := [(0, .iconst 0, 1, 0), (1, .istore_n 3, 2, 0), (2, .iload_n 3, 3, 0), (3, .aload_n 0, 4, 0), (4, .getfield 53, 7, 0), (7, .iload_n 1, 8, 0), (8, .iaload, 9, 0), (9, .if_icmp .ge 68, 12, 77), (12, .aload_n 0, 13, 0), (13, .getfield 59, 16, 0), (16, .bipush 100, 18, 0), (18, .iload_n 1, 19, 0), (19, .imul, 20, 0), (20, .iload_n 3, 21, 0), (21, .iadd, 22, 0), (22, .iaload, 23, 0), (23, .aload_n 0, 24, 0), (24, .iload_n 2, 25, 0), (25, .aload_n 0, 26, 0), (26, .getfield 41, 29, 0), (29, .iload_n 1, 30, 0), (30, .iaload, 31, 0), (31, .invokevirtual 79, 34, 0), (34, .iadd, 35, 0), (35, .aload_n 0, 36, 0), (36, .getfield 74, 39, 0), (39, .if_icmp .le 7, 42, 46), (42, .iconst 1, 43, 0), (43, .goto 4, 46, 47), (46, .iconst 0, 47, 0), (47, .istore 4, 49, 0), (49, .aload_n 0, 50, 0), (50, .getfield 56, 53, 0), (53, .bipush 100, 55, 0), (55, .iload_n 1, 56, 0), (56, .imul, 57, 0), (57, .iload_n 3, 58, 0), (58, .iadd, 59, 0), (59, .iaload, 60, 0), (60, .iload_n 2, 61, 0), (61, .if_icmp .ne 10, 64, 71), (64, .iload 4, 66, 0), (66, .ifCond .eq 5, 69, 71), (69, .iload_n 3, 70, 0), (70, .ireturn, 71, 0), (71, .iinc 3 1, 74, 0), (74, .goto (-72), 77, 2), (77, .iconst (-1), 78, 0), (78, .ireturn, 79, 0)]
set_option maxRecDepth 100000 in
theorem hX_openBooking : EX_openBooking.all (okE_ cX0_openBooking 5) = true := by decide +kernel
def EX_loseFrom : List (Nat × Ent_) := [(0, .iload_n 2, 1, 0), (1, .istore_n 3, 2, 0), (2, .iload_n 3, 3, 0), (3, .aload_n 0, 4, 0), (4, .getfield 53, 7, 0), (7, .iload_n 1, 8, 0), (8, .iaload, 9, 0), (9, .if_icmp .ge 56, 12, 65), (12, .aload_n 0, 13, 0), (13, .getfield 56, 16, 0), (16, .bipush 100, 18, 0), (18, .iload_n 1, 19, 0), (19, .imul, 20, 0), (20, .iload_n 3, 21, 0), (21, .iadd, 22, 0), (22, .iaload, 23, 0), (23, .istore 4, 25, 0), (25, .aload_n 0, 26, 0), (26, .iload 4, 28, 0), (28, .aload_n 0, 29, 0), (29, .getfield 41, 32, 0), (32, .iload_n 1, 33, 0), (33, .iaload, 34, 0), (34, .invokevirtual 79, 37, 0), (37, .istore 5, 39, 0), (39, .aload_n 0, 40, 0), (40, .iload 4, 42, 0), (42, .aload_n 0, 43, 0), (43, .getfield 59, 46, 0), (46, .bipush 100, 48, 0), (48, .iload_n 1, 49, 0), (49, .imul, 50, 0), (50, .iload_n 3, 51, 0), (51, .iadd, 52, 0), (52, .iaload, 53, 0), (53, .iload 5, 55, 0), (55, .iconst 0, 56, 0), (56, .invokevirtual 119, 59, 0), (59, .iinc 3 1, 62, 0), (62, .goto (-60), 65, 2), (65, .aload_n 0, 66, 0), (66, .getfield 53, 69, 0), (69, .iload_n 1, 70, 0), (70, .iload_n 2, 71, 0), (71, .iastore, 72, 0), (72, .return_, 73, 0)]
set_option maxRecDepth 100000 in
theorem hX_loseFrom : EX_loseFrom.all (okE_ cX0_loseFrom 6) = true := by decide +kernel
def EX_booked : List (Nat × Ent_) := [(0, .aload_n 0, 1, 0), (1, .iload_n 1, 2, 0), (2, .invokevirtual 143, 5, 0), (5, .ifCond .ne 5, 8, 10), (8, .iconst (-1), 9, 0), (9, .ireturn, 10, 0), (10, .aload_n 0, 11, 0), (11, .getfield 7, 14, 0), (14, .iload_n 1, 15, 0), (15, .baload, 16, 0), (16, .ifCond .eq 6, 19, 22), (19, .bipush (-2), 21, 0), (21, .ireturn, 22, 0), (22, .iconst 0, 23, 0), (23, .istore_n 2, 24, 0), (24, .iconst 0, 25, 0), (25, .istore_n 3, 26, 0), (26, .iload_n 3, 27, 0), (27, .bipush 101, 29, 0), (29, .if_icmp .ge 31, 32, 60), (32, .iload_n 2, 33, 0), (33, .aload_n 0, 34, 0), (34, .getfield 32, 37, 0), (37, .bipush 101, 39, 0), (39, .iload_n 1, 40, 0), (40, .imul, 41, 0), (41, .iload_n 3, 42, 0), (42, .iadd, 43, 0), (43, .baload, 44, 0), (44, .ifCond .eq 7, 47, 51), (47, .iconst 1, 48, 0), (48, .goto 4, 51, 52), (51, .iconst 0, 52, 0), (52, .iadd, 53, 0), (53, .istore_n 2, 54, 0), (54, .iinc 3 1, 57, 0), (57, .goto (-31), 60, 26), (60, .iload_n 2, 61, 0), (61, .ireturn, 62, 0)]
set_option maxRecDepth 100000 in
theorem hX_booked : EX_booked.all (okE_ cX0_booked 4) = true := by decide +kernel
def EX_send : List (Nat × Ent_) := [(0, .iload_n 1, 1, 0), (1, .invokestatic 130, 4, 0), (4, .ifCond .eq 10, 7, 14), (7, .iload_n 2, 8, 0), (8, .invokestatic 153, 11, 0), (11, .ifCond .ne 5, 14, 16), (14, .iconst (-1), 15, 0), (15, .ireturn, 16, 0), (16, .aload_n 0, 17, 0), (17, .getfield 123, 20, 0), (20, .bipush 10, 22, 0), (22, .if_icmp .lt 6, 25, 28), (25, .bipush (-3), 27, 0), (27, .ireturn, 28, 0), (28, .aload_n 0, 29, 0), (29, .getfield 123, 32, 0), (32, .istore 4, 34, 0), (34, .aload_n 0, 35, 0), (35, .dup, 36, 0), (36, .getfield 123, 39, 0), (39, .iconst 1, 40, 0), (40, .iadd, 41, 0), (41, .putfield 123, 44, 0), (44, .aload_n 0, 45, 0), (45, .getfield 35, 48, 0), (48, .iload 4, 50, 0), (50, .iload_n 1, 51, 0), (51, .bipush 6, 53, 0), (53, .idiv, 54, 0), (54, .iastore, 55, 0), (55, .aload_n 0, 56, 0), (56, .getfield 38, 59, 0), (59, .iload 4, 61, 0), (61, .iload_n 1, 62, 0), (62, .bipush 6, 64, 0), (64, .irem, 65, 0), (65, .iastore, 66, 0), (66, .aload_n 0, 67, 0), (67, .getfield 41, 70, 0), (70, .iload 4, 72, 0), (72, .iload_n 2, 73, 0), (73, .iastore, 74, 0), (74, .aload_n 0, 75, 0), (75, .getfield 44, 78, 0), (78, .iload 4, 80, 0), (80, .iload_n 3, 81, 0), (81, .iastore, 82, 0), (82, .aload_n 0, 83, 0), (83, .getfield 53, 86, 0), (86, .iload 4, 88, 0), (88, .iconst 0, 89, 0), (89, .iastore, 90, 0), (90, .aload_n 0, 91, 0), (91, .iload 4, 93, 0), (93, .invokevirtual 126, 96, 0), (96, .iload 4, 98, 0), (98, .ireturn, 99, 0)]
set_option maxRecDepth 100000 in
theorem hX_send : EX_send.all (okE_ cX0_send 5) = true := by decide +kernel
def EX_isSize : List (Nat × Ent_) := [(0, .iload_n 0, 1, 0), (1, .iconst 1, 2, 0), (2, .if_icmp .lt 13, 5, 15), (5, .iload_n 0, 6, 0), (6, .bipush 30, 8, 0), (8, .if_icmp .gt 7, 11, 15), (11, .iconst 1, 12, 0), (12, .goto 4, 15, 16), (15, .iconst 0, 16, 0), (16, .ireturn, 17, 0)]
set_option maxRecDepth 100000 in
theorem hX_isSize : EX_isSize.all (okE_ cX0_isSize 1) = true := by decide +kernel
def EX_pass : List (Nat × Ent_) := [(0, .iload_n 1, 1, 0), (1, .ifCond .lt 10, 4, 11), (4, .iload_n 1, 5, 0), (5, .sipush 200, 8, 0), (8, .if_icmp .le 5, 11, 13), (11, .iconst (-1), 12, 0), (12, .ireturn, 13, 0), (13, .aload_n 0, 14, 0), (14, .dup, 15, 0), (15, .getfield 74, 18, 0), (18, .iload_n 1, 19, 0), (19, .iadd, 20, 0), (20, .putfield 74, 23, 0), (23, .aload_n 0, 24, 0), (24, .getfield 74, 27, 0), (27, .ireturn, 28, 0)]
set_option maxRecDepth 100000 in
theorem hX_pass : EX_pass.all (okE_ cX0_pass 2) = true := by decide +kernel
def EX_time : List (Nat × Ent_) := [(0, .aload_n 0, 1, 0), (1, .getfield 74, 4, 0), (4, .ireturn, 5, 0)]
set_option maxRecDepth 100000 in
theorem hX_time : EX_time.all (okE_ cX0_time 1) = true := by decide +kernel
def EX_state : List (Nat × Ent_) := [(0, .aload_n 0, 1, 0), (1, .iload_n 1, 2, 0), (2, .invokevirtual 156, 5, 0), (5, .ifCond .ne 5, 8, 10), (8, .iconst (-1), 9, 0), (9, .ireturn, 10, 0), (10, .aload_n 0, 11, 0), (11, .getfield 47, 14, 0), (14, .iload_n 1, 15, 0), (15, .baload, 16, 0), (16, .ifCond .ne 5, 19, 21), (19, .iconst 0, 20, 0), (20, .ireturn, 21, 0), (21, .aload_n 0, 22, 0), (22, .iload_n 1, 23, 0), (23, .aload_n 0, 24, 0), (24, .getfield 53, 27, 0), (27, .iload_n 1, 28, 0), (28, .iaload, 29, 0), (29, .iconst 1, 30, 0), (30, .isub, 31, 0), (31, .invokevirtual 108, 34, 0), (34, .aload_n 0, 35, 0), (35, .getfield 74, 38, 0), (38, .if_icmp .gt 7, 41, 45), (41, .iconst 2, 42, 0), (42, .goto 4, 45, 46), (45, .iconst 1, 46, 0), (46, .ireturn, 47, 0)]
set_option maxRecDepth 100000 in
theorem hX_state : EX_state.all (okE_ cX0_state 2) = true := by decide +kernel
def EX_isBundle : List (Nat × Ent_) := [(0, .iload_n 1, 1, 0), (1, .ifCond .lt 15, 4, 16), (4, .iload_n 1, 5, 0), (5, .aload_n 0, 6, 0), (6, .getfield 123, 9, 0), (9, .if_icmp .ge 7, 12, 16), (12, .iconst 1, 13, 0), (13, .goto 4, 16, 17), (16, .iconst 0, 17, 0), (17, .ireturn, 18, 0)]
set_option maxRecDepth 100000 in
theorem hX_isBundle : EX_isBundle.all (okE_ cX0_isBundle 2) = true := by decide +kernel
def EX_arrival : List (Nat × Ent_) := [(0, .aload_n 0, 1, 0), (1, .iload_n 1, 2, 0), (2, .invokevirtual 156, 5, 0), (5, .ifCond .ne 5, 8, 10), (8, .iconst (-1), 9, 0), (9, .ireturn, 10, 0), (10, .aload_n 0, 11, 0), (11, .getfield 47, 14, 0), (14, .iload_n 1, 15, 0), (15, .baload, 16, 0), (16, .ifCond .eq 19, 19, 35), (19, .aload_n 0, 20, 0), (20, .iload_n 1, 21, 0), (21, .aload_n 0, 22, 0), (22, .getfield 53, 25, 0), (25, .iload_n 1, 26, 0), (26, .iaload, 27, 0), (27, .iconst 1, 28, 0), (28, .isub, 29, 0), (29, .invokevirtual 108, 32, 0), (32, .goto 5, 35, 37), (35, .bipush (-2), 37, 0), (37, .ireturn, 38, 0)]
set_option maxRecDepth 100000 in
theorem hX_arrival : EX_arrival.all (okE_ cX0_arrival 2) = true := by decide +kernel
def EX_hops : List (Nat × Ent_) := [(0, .aload_n 0, 1, 0), (1, .iload_n 1, 2, 0), (2, .invokevirtual 156, 5, 0), (5, .ifCond .eq 12, 8, 17), (8, .aload_n 0, 9, 0), (9, .getfield 53, 12, 0), (12, .iload_n 1, 13, 0), (13, .iaload, 14, 0), (14, .goto 4, 17, 18), (17, .iconst (-1), 18, 0), (18, .ireturn, 19, 0)]
set_option maxRecDepth 100000 in
theorem hX_hops : EX_hops.all (okE_ cX0_hops 2) = true := by decide +kernel
def EX_hop : List (Nat × Ent_) := [(0, .aload_n 0, 1, 0), (1, .iload_n 1, 2, 0), (2, .invokevirtual 156, 5, 0), (5, .ifCond .ne 5, 8, 10), (8, .iconst (-1), 9, 0), (9, .ireturn, 10, 0), (10, .iload_n 2, 11, 0), (11, .ifCond .lt 13, 14, 24), (14, .iload_n 2, 15, 0), (15, .aload_n 0, 16, 0), (16, .getfield 53, 19, 0), (19, .iload_n 1, 20, 0), (20, .iaload, 21, 0), (21, .if_icmp .lt 8, 24, 29), (24, .bipush (-2), 26, 0), (26, .goto 30, 29, 56), (29, .sipush 1000, 32, 0), (32, .aload_n 0, 33, 0), (33, .getfield 56, 36, 0), (36, .bipush 100, 38, 0), (38, .iload_n 1, 39, 0), (39, .imul, 40, 0), (40, .iload_n 2, 41, 0), (41, .iadd, 42, 0), (42, .iaload, 43, 0), (43, .imul, 44, 0), (44, .aload_n 0, 45, 0), (45, .getfield 59, 48, 0), (48, .bipush 100, 50, 0), (50, .iload_n 1, 51, 0), (51, .imul, 52, 0), (52, .iload_n 2, 53, 0), (53, .iadd, 54, 0), (54, .iaload, 55, 0), (55, .iadd, 56, 0), (56, .ireturn, 57, 0)]
set_option maxRecDepth 100000 in
theorem hX_hop : EX_hop.all (okE_ cX0_hop 3) = true := by decide +kernel
def EX_place : List (Nat × Ent_) := [(0, .aload_n 0, 1, 0), (1, .iload_n 1, 2, 0), (2, .invokevirtual 156, 5, 0), (5, .ifCond .ne 5, 8, 10), (8, .iconst (-1), 9, 0), (9, .ireturn, 10, 0), (10, .iconst 0, 11, 0), (11, .istore_n 2, 12, 0), (12, .iload_n 2, 13, 0), (13, .aload_n 0, 14, 0), (14, .getfield 53, 17, 0), (17, .iload_n 1, 18, 0), (18, .iaload, 19, 0), (19, .if_icmp .ge 66, 22, 85), (22, .aload_n 0, 23, 0), (23, .iload_n 1, 24, 0), (24, .iload_n 2, 25, 0), (25, .invokevirtual 108, 28, 0), (28, .aload_n 0, 29, 0), (29, .getfield 74, 32, 0), (32, .if_icmp .le 47, 35, 79), (35, .aload_n 0, 36, 0), (36, .getfield 56, 39, 0), (39, .bipush 100, 41, 0), (41, .iload_n 1, 42, 0), (42, .imul, 43, 0), (43, .iload_n 2, 44, 0), (44, .iadd, 45, 0), (45, .iaload, 46, 0), (46, .istore_n 3, 47, 0), (47, .aload_n 0, 48, 0), (48, .getfield 59, 51, 0), (51, .bipush 100, 53, 0), (53, .iload_n 1, 54, 0), (54, .imul, 55, 0), (55, .iload_n 2, 56, 0), (56, .iadd, 57, 0), (57, .iaload, 58, 0), (58, .aload_n 0, 59, 0), (59, .getfield 74, 62, 0), (62, .if_icmp .ge 10, 65, 72), (65, .bipush 10, 67, 0), (67, .iload_n 3, 68, 0), (68, .iadd, 69, 0), (69, .goto 9, 72, 78), (72, .aload_n 0, 73, 0), (73, .getfield 13, 76, 0), (76, .iload_n 3, 77, 0), (77, .iaload, 78, 0), (78, .ireturn, 79, 0), (79, .iinc 2 1, 82, 0), (82, .goto (-70), 85, 12), (85, .aload_n 0, 86, 0), (86, .iload_n 1, 87, 0), (87, .invokevirtual 111, 90, 0), (90, .ireturn, 91, 0)]
set_option maxRecDepth 100000 in
theorem hX_place : EX_place.all (okE_ cX0_place 4) = true := by decide +kernel
def EX_quote : List (Nat × Ent_) := [(0, .iload_n 1, 1, 0), (1, .invokestatic 130, 4, 0), (4, .ifCond .eq 10, 7, 14), (7, .iload_n 2, 8, 0), (8, .invokestatic 153, 11, 0), (11, .ifCond .ne 5, 14, 16), (14, .iconst (-1), 15, 0), (15, .ireturn, 16, 0), (16, .aload_n 0, 17, 0), (17, .iload_n 1, 18, 0), (18, .bipush 6, 20, 0), (20, .idiv, 21, 0), (21, .aload_n 0, 22, 0), (22, .getfield 74, 25, 0), (25, .iload_n 2, 26, 0), (26, .iconst 5, 27, 0), (27, .invokevirtual 93, 30, 0), (30, .aload_n 0, 31, 0), (31, .getfield 68, 34, 0), (34, .iload_n 1, 35, 0), (35, .bipush 6, 37, 0), (37, .irem, 38, 0), (38, .iaload, 39, 0), (39, .istore_n 3, 40, 0), (40, .iload_n 3, 41, 0), (41, .ldc 78, 43, 0), (43, .if_icmp .lt 8, 46, 51), (46, .bipush (-2), 48, 0), (48, .goto 4, 51, 52), (51, .iload_n 3, 52, 0), (52, .ireturn, 53, 0)]
set_option maxRecDepth 100000 in
theorem hX_quote : EX_quote.all (okE_ cX0_quote 4) = true := by decide +kernel
def EX_reach : List (Nat × Ent_) := [(0, .iload_n 1, 1, 0), (1, .ifCond .lt 16, 4, 17), (4, .iload_n 1, 5, 0), (5, .bipush 6, 7, 0), (7, .if_icmp .ge 10, 10, 17), (10, .iload_n 2, 11, 0), (11, .invokestatic 153, 14, 0), (14, .ifCond .ne 5, 17, 19), (17, .iconst (-1), 18, 0), (18, .ireturn, 19, 0), (19, .aload_n 0, 20, 0), (20, .iload_n 1, 21, 0), (21, .aload_n 0, 22, 0), (22, .getfield 74, 25, 0), (25, .iload_n 2, 26, 0), (26, .iconst 5, 27, 0), (27, .invokevirtual 93, 30, 0), (30, .iconst 1, 31, 0), (31, .iload_n 1, 32, 0), (32, .ishl, 33, 0), (33, .istore 4, 35, 0), (35, .iconst 0, 36, 0), (36, .istore 5, 38, 0), (38, .iload 5, 40, 0), (40, .bipush 6, 42, 0), (42, .if_icmp .ge 45, 45, 87), (45, .iload 4, 47, 0), (47, .aload_n 0, 48, 0), (48, .getfield 68, 51, 0), (51, .iload 5, 53, 0), (53, .iaload, 54, 0), (54, .ldc 78, 56, 0), (56, .if_icmp .ge 21, 59, 77), (59, .aload_n 0, 60, 0), (60, .getfield 68, 63, 0), (63, .iload 5, 65, 0), (65, .iaload, 66, 0), (66, .iload_n 3, 67, 0), (67, .if_icmp .gt 10, 70, 77), (70, .iconst 1, 71, 0), (71, .iload 5, 73, 0), (73, .ishl, 74, 0), (74, .goto 4, 77, 78), (77, .iconst 0, 78, 0), (78, .ior, 79, 0), (79, .istore 4, 81, 0), (81, .iinc 5 1, 84, 0), (84, .goto (-46), 87, 38), (87, .iload 4, 89, 0), (89, .ireturn, 90, 0)]
set_option maxRecDepth 100000 in
theorem hX_reach : EX_reach.all (okE_ cX0_reach 6) = true := by decide +kernel
def EX_latest : List (Nat × Ent_) := [(0, .iload_n 1, 1, 0), (1, .invokestatic 130, 4, 0), (4, .ifCond .eq 10, 7, 14), (7, .iload_n 2, 8, 0), (8, .invokestatic 153, 11, 0), (11, .ifCond .ne 5, 14, 16), (14, .iconst (-1), 15, 0), (15, .ireturn, 16, 0), (16, .aload_n 0, 17, 0), (17, .getfield 74, 20, 0), (20, .bipush 100, 22, 0), (22, .if_icmp .gt 17, 25, 39), (25, .aload_n 0, 26, 0), (26, .iload_n 1, 27, 0), (27, .iload_n 2, 28, 0), (28, .aload_n 0, 29, 0), (29, .getfield 74, 32, 0), (32, .iload_n 3, 33, 0), (33, .invokevirtual 159, 36, 0), (36, .ifCond .ne 6, 39, 42), (39, .bipush (-4), 41, 0), (41, .ireturn, 42, 0), (42, .aload_n 0, 43, 0), (43, .getfield 74, 46, 0), (46, .istore 4, 48, 0), (48, .bipush 100, 50, 0), (50, .istore 5, 52, 0), (52, .iconst 0, 53, 0), (53, .istore 6, 55, 0), (55, .iload 6, 57, 0), (57, .bipush 8, 59, 0), (59, .if_icmp .ge 52, 62, 111), (62, .iload 4, 64, 0), (64, .iload 5, 66, 0), (66, .if_icmp .ge 45, 69, 111), (69, .iload 4, 71, 0), (71, .iload 5, 73, 0), (73, .iadd, 74, 0), (74, .iconst 1, 75, 0), (75, .iadd, 76, 0), (76, .iconst 1, 77, 0), (77, .ishr, 78, 0), (78, .istore 7, 80, 0), (80, .aload_n 0, 81, 0), (81, .iload_n 1, 82, 0), (82, .iload_n 2, 83, 0), (83, .iload 7, 85, 0), (85, .iload_n 3, 86, 0), (86, .invokevirtual 159, 89, 0), (89, .ifCond .eq 10, 92, 99), (92, .iload 7, 94, 0), (94, .istore 4, 96, 0), (96, .goto 9, 99, 105), (99, .iload 7, 101, 0), (101, .iconst 1, 102, 0), (102, .isub, 103, 0), (103, .istore 5, 105, 0), (105, .iinc 6 1, 108, 0), (108, .goto (-53), 111, 55), (111, .iload 4, 113, 0), (113, .ireturn, 114, 0)]
set_option maxRecDepth 100000 in
theorem hX_latest : EX_latest.all (okE_ cX0_latest 8) = true := by decide +kernel
def EX_isInTime : List (Nat × Ent_) := [(0, .aload_n 0, 1, 0), (1, .iload_n 1, 2, 0), (2, .bipush 6, 4, 0), (4, .idiv, 5, 0), (5, .iload_n 3, 6, 0), (6, .iload_n 2, 7, 0), (7, .iconst 5, 8, 0), (8, .invokevirtual 93, 11, 0), (11, .aload_n 0, 12, 0), (12, .getfield 68, 15, 0), (15, .iload_n 1, 16, 0), (16, .bipush 6, 18, 0), (18, .irem, 19, 0), (19, .iaload, 20, 0), (20, .istore 5, 22, 0), (22, .iload 5, 24, 0), (24, .ldc 78, 26, 0), (26, .if_icmp .ge 14, 29, 40), (29, .iload 5, 31, 0), (31, .iload 4, 33, 0), (33, .if_icmp .gt 7, 36, 40), (36, .iconst 1, 37, 0), (37, .goto 4, 40, 41), (40, .iconst 0, 41, 0), (41, .ireturn, 42, 0)]
set_option maxRecDepth 100000 in
theorem hX_isInTime : EX_isInTime.all (okE_ cX0_isInTime 6) = true := by decide +kernel
end
section
/-! ContactNetworkModel: its layout; its methods as tables (printed by tools/gen_tabs.py out of the decode rows) -/
def kM : Nat → Option (Bool × Nat) := fun k => match k with
  | 0 => none
  | 1 => none
  | 2 => some (false, 10)
  | 3 => some (false, 10)
  | 4 => some (false, 10)
  | 5 => some (false, 10)
  | 6 => some (false, 10)
  | 7 => some (false, 10)
  | 8 => some (true, 10)
  | 9 => none
  | 10 => some (false, 10)
  | 11 => some (false, 10)
  | 12 => some (false, 10)
  | 13 => some (false, 10)
  | 14 => some (true, 10)
  | 15 => some (false, 10)
  | 16 => some (false, 640)
  | 17 => some (false, 640)
  | 18 => some (false, 6)
  | 19 => some (false, 6)
  | 20 => some (false, 7)
  | 21 => some (false, 7)
  | 22 => some (false, 7)
  | 23 => none
  | 24 => none
  | 25 => some (false, 5)
  | 26 => some (false, 5)
  | _ => none
def LM : Ly_ := (27, kM, [(7, 2), (13, 3), (16, 4), (19, 5), (22, 6), (25, 7), (28, 8), (32, 10), (35, 11), (38, 12), (41, 13), (44, 14), (47, 15), (50, 16), (53, 17), (56, 18), (59, 19), (62, 20), (65, 21), (68, 22), (71, 25), (74, 26), (81, 9), (89, 23), (92, 24), (95, 1), (117, 0)], [])
set_option maxRecDepth 100000 in
theorem flM : ∀ q ∈ LM.2.2.1, q.2 < LM.1 ∧ Cond.fieldLink RX1 q.1 (TX1 q.2).1 (TX1 q.2).2.1 (TX1 q.2).2.2.1 ∈ lw_all := List.forall_mem_cons.mpr ⟨⟨by decide, q266⟩, List.forall_mem_cons.mpr ⟨⟨by decide, q267⟩, List.forall_mem_cons.mpr ⟨⟨by decide, q268⟩, List.forall_mem_cons.mpr ⟨⟨by decide, q269⟩, List.forall_mem_cons.mpr ⟨⟨by decide, q270⟩, List.forall_mem_cons.mpr ⟨⟨by decide, q271⟩, List.forall_mem_cons.mpr ⟨⟨by decide, q272⟩, List.forall_mem_cons.mpr ⟨⟨by decide, q274⟩, List.forall_mem_cons.mpr ⟨⟨by decide, q275⟩, List.forall_mem_cons.mpr ⟨⟨by decide, q276⟩, List.forall_mem_cons.mpr ⟨⟨by decide, q277⟩, List.forall_mem_cons.mpr ⟨⟨by decide, q278⟩, List.forall_mem_cons.mpr ⟨⟨by decide, q279⟩, List.forall_mem_cons.mpr ⟨⟨by decide, q280⟩, List.forall_mem_cons.mpr ⟨⟨by decide, q281⟩, List.forall_mem_cons.mpr ⟨⟨by decide, q282⟩, List.forall_mem_cons.mpr ⟨⟨by decide, q283⟩, List.forall_mem_cons.mpr ⟨⟨by decide, q284⟩, List.forall_mem_cons.mpr ⟨⟨by decide, q285⟩, List.forall_mem_cons.mpr ⟨⟨by decide, q286⟩, List.forall_mem_cons.mpr ⟨⟨by decide, q289⟩, List.forall_mem_cons.mpr ⟨⟨by decide, q290⟩, List.forall_mem_cons.mpr ⟨⟨by decide, q273⟩, List.forall_mem_cons.mpr ⟨⟨by decide, q287⟩, List.forall_mem_cons.mpr ⟨⟨by decide, q288⟩, List.forall_mem_cons.mpr ⟨⟨by decide, q265⟩, List.forall_mem_cons.mpr ⟨⟨by decide, q264⟩, fun _ h => absurd h List.not_mem_nil⟩⟩⟩⟩⟩⟩⟩⟩⟩⟩⟩⟩⟩⟩⟩⟩⟩⟩⟩⟩⟩⟩⟩⟩⟩⟩⟩
theorem cnM : ∀ q ∈ LM.2.2.2, zR q.2 ∧ Cond.constant RX1 q.1 (zI q.2) ∈ lw_all := fun _ h => absurd h List.not_mem_nil
set_option maxRecDepth 100000 in
theorem KlM : Kl_ 1 RX1 TX1 LM := ⟨rfl, in_X1, ⟨tyX1, tyX1_ok, by decide +kernel⟩, nmX1, by decide +kernel, flM, cnM⟩
theorem hfM : ∀ f z, LM.2.1 f = some z → f < LM.1 := by
  intro f z h
  refine Nat.lt_of_not_le fun hle => ?_
  have h2 : kM f = none := by
    have hle : 27 ≤ f := hle
    unfold kM
    split <;> first | rfl | omega
  have h3 : kM f = some z := h
  rw [h2] at h3
  cases h3
def EM_contact : List (Nat × Ent_) := [(0, .aload_n 0, 1, 0), (1, .iload_n 1, 2, 0), (2, .invokevirtual 131, 5, 0), (5, .ifCond .ne 37, 8, 42), (8, .iload_n 2, 9, 0), (9, .ifCond .lt 33, 12, 42), (12, .iload_n 2, 13, 0), (13, .sipush 10200, 16, 0), (16, .if_icmp .gt 26, 19, 42), (19, .iload_n 2, 20, 0), (20, .bipush 101, 22, 0), (22, .idiv, 23, 0), (23, .iload_n 2, 24, 0), (24, .bipush 101, 26, 0), (26, .irem, 27, 0), (27, .if_icmp .ge 15, 30, 42), (30, .iload_n 3, 31, 0), (31, .bipush 10, 33, 0), (33, .if_icmp .lt 9, 36, 42), (36, .iload_n 3, 37, 0), (37, .bipush 99, 39, 0), (39, .if_icmp .le 5, 42, 44), (42, .iconst (-1), 43, 0), (43, .ireturn, 44, 0), (44, .aload_n 0, 45, 0), (45, .getfield 95, 48, 0), (48, .bipush 10, 50, 0), (50, .if_icmp .ne 6, 53, 56), (53, .bipush (-3), 55, 0), (55, .ireturn, 56, 0), (56, .aload_n 0, 57, 0), (57, .getfield 7, 60, 0), (60, .aload_n 0, 61, 0), (61, .getfield 95, 64, 0), (64, .iload_n 1, 65, 0), (65, .bipush 6, 67, 0), (67, .idiv, 68, 0), (68, .iastore, 69, 0), (69, .aload_n 0, 70, 0), (70, .getfield 13, 73, 0), (73, .aload_n 0, 74, 0), (74, .getfield 95, 77, 0), (77, .iload_n 1, 78, 0), (78, .bipush 6, 80, 0), (80, .irem, 81, 0), (81, .iastore, 82, 0), (82, .aload_n 0, 83, 0), (83, .getfield 16, 86, 0), (86, .aload_n 0, 87, 0), (87, .getfield 95, 90, 0), (90, .iload_n 2, 91, 0), (91, .bipush 101, 93, 0), (93, .idiv, 94, 0), (94, .iastore, 95, 0), (95, .aload_n 0, 96, 0), (96, .getfield 19, 99, 0), (99, .aload_n 0, 100, 0), (100, .getfield 95, 103, 0), (103, .iload_n 2, 104, 0), (104, .bipush 101, 106, 0), (106, .irem, 107, 0), (107, .iastore, 108, 0), (108, .aload_n 0, 109, 0), (109, .getfield 22, 112, 0), (112, .aload_n 0, 113, 0), (113, .getfield 95, 116, 0), (116, .iload_n 3, 117, 0), (117, .bipush 10, 119, 0), (119, .idiv, 120, 0), (120, .iastore, 121, 0), (121, .aload_n 0, 122, 0), (122, .getfield 25, 125, 0), (125, .aload_n 0, 126, 0), (126, .getfield 95, 129, 0), (129, .iload_n 3, 130, 0), (130, .bipush 10, 132, 0), (132, .irem, 133, 0), (133, .iastore, 134, 0), (134, .aload_n 0, 135, 0), (135, .dup, 136, 0), (136, .getfield 95, 139, 0), (139, .iconst 1, 140, 0), (140, .iadd, 141, 0), (141, .putfield 95, 144, 0), (144, .aload_n 0, 145, 0), (145, .invokevirtual 135, 148, 0), (148, .aload_n 0, 149, 0), (149, .getfield 95, 152, 0), (152, .iconst 1, 153, 0), (153, .isub, 154, 0), (154, .ireturn, 155, 0)]
set_option maxRecDepth 100000 in
theorem hM_contact : EM_contact.all (okE_ cX1_contact 4) = true := by decide +kernel
def EM_badEnds : List (Nat × Ent_) := [(0, .iload_n 1, 1, 0), (1, .ifCond .lt 20, 4, 21), (4, .iload_n 1, 5, 0), (5, .bipush 35, 7, 0), (7, .if_icmp .gt 14, 10, 21), (10, .iload_n 1, 11, 0), (11, .bipush 6, 13, 0), (13, .idiv, 14, 0), (14, .iload_n 1, 15, 0), (15, .bipush 6, 17, 0), (17, .irem, 18, 0), (18, .if_icmp .ne 7, 21, 25), (21, .iconst 1, 22, 0), (22, .goto 4, 25, 26), (25, .iconst 0, 26, 0), (26, .ireturn, 27, 0)]
set_option maxRecDepth 100000 in
theorem hM_badEnds : EM_badEnds.all (okE_ cX1_badEnds 2) = true := by decide +kernel
def EM_retry : List (Nat × Ent_) := [(0, .iconst 0, 1, 0), (1, .istore_n 1, 2, 0), (2, .iload_n 1, 3, 0), (3, .aload_n 0, 4, 0), (4, .getfield 81, 7, 0), (7, .if_icmp .ge 23, 10, 30), (10, .aload_n 0, 11, 0), (11, .getfield 44, 14, 0), (14, .iload_n 1, 15, 0), (15, .baload, 16, 0), (16, .ifCond .eq 8, 19, 24), (19, .aload_n 0, 20, 0), (20, .iload_n 1, 21, 0), (21, .invokevirtual 127, 24, 0), (24, .iinc 1 1, 27, 0), (27, .goto (-25), 30, 2), (30, .return_, 31, 0)]
set_option maxRecDepth 100000 in
theorem hM_retry : EM_retry.all (okE_ cX1_retry 2) = true := by decide +kernel
def EM_plan : List (Nat × Ent_) := [(0, .aload_n 0, 1, 0), (1, .iload_n 1, 2, 0), (2, .invokevirtual 113, 5, 0), (5, .aload_n 0, 6, 0), (6, .getfield 117, 9, 0), (9, .if_icmp .le 11, 12, 20), (12, .aload_n 0, 13, 0), (13, .iload_n 1, 14, 0), (14, .invokevirtual 113, 17, 0), (17, .goto 7, 20, 24), (20, .aload_n 0, 21, 0), (21, .getfield 117, 24, 0), (24, .istore_n 2, 25, 0), (25, .aload_n 0, 26, 0), (26, .getfield 44, 29, 0), (29, .iload_n 1, 30, 0), (30, .aload_n 0, 31, 0), (31, .aload_n 0, 32, 0), (32, .iload_n 1, 33, 0), (33, .invokevirtual 120, 36, 0), (36, .iload_n 2, 37, 0), (37, .aload_n 0, 38, 0), (38, .getfield 35, 41, 0), (41, .iload_n 1, 42, 0), (42, .iaload, 43, 0), (43, .aload_n 0, 44, 0), (44, .getfield 38, 47, 0), (47, .iload_n 1, 48, 0), (48, .iaload, 49, 0), (49, .invokevirtual 123, 52, 0), (52, .ifCond .eq 16, 55, 68), (55, .aload_n 0, 56, 0), (56, .getfield 92, 59, 0), (59, .aload_n 0, 60, 0), (60, .getfield 41, 63, 0), (63, .iload_n 1, 64, 0), (64, .iaload, 65, 0), (65, .if_icmp .le 7, 68, 72), (68, .iconst 1, 69, 0), (69, .goto 4, 72, 73), (72, .iconst 0, 73, 0), (73, .bastore, 74, 0), (74, .aload_n 0, 75, 0), (75, .getfield 44, 78, 0), (78, .iload_n 1, 79, 0), (79, .baload, 80, 0), (80, .ifCond .eq 4, 83, 84), (83, .return_, 84, 0), (84, .iconst 0, 85, 0), (85, .istore_n 3, 86, 0), (86, .iload_n 3, 87, 0), (87, .aload_n 0, 88, 0), (88, .getfield 89, 91, 0), (91, .if_icmp .ge 63, 94, 154), (94, .aload_n 0, 95, 0), (95, .getfield 50, 98, 0), (98, .bipush 64, 100, 0), (100, .iload_n 1, 101, 0), (101, .imul, 102, 0), (102, .aload_n 0, 103, 0), (103, .getfield 47, 106, 0), (106, .iload_n 1, 107, 0), (107, .iaload, 108, 0), (108, .iadd, 109, 0), (109, .aload_n 0, 110, 0), (110, .getfield 71, 113, 0), (113, .iload_n 3, 114, 0), (114, .iaload, 115, 0), (115, .iastore, 116, 0), (116, .aload_n 0, 117, 0), (117, .getfield 53, 120, 0), (120, .bipush 64, 122, 0), (122, .iload_n 1, 123, 0), (123, .imul, 124, 0), (124, .aload_n 0, 125, 0), (125, .getfield 47, 128, 0), (128, .iload_n 1, 129, 0), (129, .iaload, 130, 0), (130, .iadd, 131, 0), (131, .aload_n 0, 132, 0), (132, .getfield 74, 135, 0), (135, .iload_n 3, 136, 0), (136, .iaload, 137, 0), (137, .iastore, 138, 0), (138, .aload_n 0, 139, 0), (139, .getfield 47, 142, 0), (142, .iload_n 1, 143, 0), (143, .dup2, 144, 0), (144, .iaload, 145, 0), (145, .iconst 1, 146, 0), (146, .iadd, 147, 0), (147, .iastore, 148, 0), (148, .iinc 3 1, 151, 0), (151, .goto (-65), 154, 86), (154, .return_, 155, 0)]
set_option maxRecDepth 100000 in
theorem hM_plan : EM_plan.all (okE_ cX1_plan 4) = true := by decide +kernel
def EM_lastTime : List (Nat × Ent_) := [(0, .bipush 64, 2, 0), (2, .iload_n 1, 3, 0), (3, .imul, 4, 0), (4, .aload_n 0, 5, 0), (5, .getfield 47, 8, 0), (8, .iload_n 1, 9, 0), (9, .iaload, 10, 0), (10, .iadd, 11, 0), (11, .iconst 1, 12, 0), (12, .isub, 13, 0), (13, .istore_n 2, 14, 0), (14, .aload_n 0, 15, 0), (15, .getfield 47, 18, 0), (18, .iload_n 1, 19, 0), (19, .iaload, 20, 0), (20, .ifCond .ne 7, 23, 27), (23, .iconst 0, 24, 0), (24, .goto 25, 27, 49), (27, .aload_n 0, 28, 0), (28, .aload_n 0, 29, 0), (29, .getfield 50, 32, 0), (32, .iload_n 2, 33, 0), (33, .iaload, 34, 0), (34, .aload_n 0, 35, 0), (35, .getfield 38, 38, 0), (38, .iload_n 1, 39, 0), (39, .iaload, 40, 0), (40, .aload_n 0, 41, 0), (41, .getfield 53, 44, 0), (44, .iload_n 2, 45, 0), (45, .iaload, 46, 0), (46, .invokevirtual 106, 49, 0), (49, .ireturn, 50, 0)]
set_option maxRecDepth 100000 in
theorem hM_lastTime : EM_lastTime.all (okE_ cX1_lastTime 3) = true := by decide +kernel
def EM_comesIn : List (Nat × Ent_) := [(0, .iload_n 3, 1, 0), (1, .aload_n 0, 2, 0), (2, .iload_n 1, 3, 0), (3, .iload_n 2, 4, 0), (4, .invokevirtual 77, 7, 0), (7, .iadd, 8, 0), (8, .aload_n 0, 9, 0), (9, .getfield 25, 12, 0), (12, .iload_n 1, 13, 0), (13, .iaload, 14, 0), (14, .iadd, 15, 0), (15, .ireturn, 16, 0)]
set_option maxRecDepth 100000 in
theorem hM_comesIn : EM_comesIn.all (okE_ cX1_comesIn 4) = true := by decide +kernel
def EM_ticks : List (Nat × Ent_) := [(0, .aload_n 0, 1, 0), (1, .getfield 22, 4, 0), (4, .iload_n 1, 5, 0), (5, .iaload, 6, 0), (6, .iconst 1, 7, 0), (7, .if_icmp .ge 7, 10, 14), (10, .iconst 1, 11, 0), (11, .goto 9, 14, 20), (14, .aload_n 0, 15, 0), (15, .getfield 22, 18, 0), (18, .iload_n 1, 19, 0), (19, .iaload, 20, 0), (20, .istore_n 3, 21, 0), (21, .iload_n 2, 22, 0), (22, .iload_n 3, 23, 0), (23, .iadd, 24, 0), (24, .iconst 1, 25, 0), (25, .isub, 26, 0), (26, .iload_n 3, 27, 0), (27, .idiv, 28, 0), (28, .ireturn, 29, 0)]
set_option maxRecDepth 100000 in
theorem hM_ticks : EM_ticks.all (okE_ cX1_ticks 4) = true := by decide +kernel
def EM_lastNode : List (Nat × Ent_) := [(0, .aload_n 0, 1, 0), (1, .getfield 47, 4, 0), (4, .iload_n 1, 5, 0), (5, .iaload, 6, 0), (6, .ifCond .ne 12, 9, 18), (9, .aload_n 0, 10, 0), (10, .getfield 32, 13, 0), (13, .iload_n 1, 14, 0), (14, .iaload, 15, 0), (15, .goto 26, 18, 41), (18, .aload_n 0, 19, 0), (19, .getfield 13, 22, 0), (22, .aload_n 0, 23, 0), (23, .getfield 50, 26, 0), (26, .bipush 64, 28, 0), (28, .iload_n 1, 29, 0), (29, .imul, 30, 0), (30, .aload_n 0, 31, 0), (31, .getfield 47, 34, 0), (34, .iload_n 1, 35, 0), (35, .iaload, 36, 0), (36, .iadd, 37, 0), (37, .iconst 1, 38, 0), (38, .isub, 39, 0), (39, .iaload, 40, 0), (40, .iaload, 41, 0), (41, .ireturn, 42, 0)]
set_option maxRecDepth 100000 in
theorem hM_lastNode : EM_lastNode.all (okE_ cX1_lastNode 2) = true := by decide +kernel
def EM_findBest : List (Nat × Ent_) := [(0, .aload_n 0, 1, 0), (1, .iconst 0, 2, 0), (2, .putfield 89, 5, 0), (5, .iconst 0, 6, 0), (6, .istore 5, 8, 0), (8, .aload_n 0, 9, 0), (9, .getfield 62, 12, 0), (12, .iconst 0, 13, 0), (13, .iload_n 1, 14, 0), (14, .iastore, 15, 0), (15, .aload_n 0, 16, 0), (16, .getfield 65, 19, 0), (19, .iconst 0, 20, 0), (20, .iload_n 2, 21, 0), (21, .iastore, 22, 0), (22, .aload_n 0, 23, 0), (23, .getfield 68, 26, 0), (26, .iconst 0, 27, 0), (27, .iconst 0, 28, 0), (28, .iastore, 29, 0), (29, .iload 5, 31, 0), (31, .ifCond .lt 174, 34, 205), (34, .aload_n 0, 35, 0), (35, .getfield 68, 38, 0), (38, .iload 5, 40, 0), (40, .iaload, 41, 0), (41, .istore 6, 43, 0), (43, .aload_n 0, 44, 0), (44, .getfield 68, 47, 0), (47, .iload 5, 49, 0), (49, .dup2, 50, 0), (50, .iaload, 51, 0), (51, .iconst 1, 52, 0), (52, .iadd, 53, 0), (53, .iastore, 54, 0), (54, .iload 5, 56, 0), (56, .iconst 5, 57, 0), (57, .if_icmp .eq 12, 60, 69), (60, .iload 6, 62, 0), (62, .aload_n 0, 63, 0), (63, .getfield 95, 66, 0), (66, .if_icmp .lt 9, 69, 75), (69, .iinc 5 (-1), 72, 0), (72, .goto 130, 75, 202), (75, .aload_n 0, 76, 0), (76, .getfield 7, 79, 0), (79, .iload 6, 81, 0), (81, .iaload, 82, 0), (82, .aload_n 0, 83, 0), (83, .getfield 62, 86, 0), (86, .iload 5, 88, 0), (88, .iaload, 89, 0), (89, .if_icmp .ne 113, 92, 202), (92, .aload_n 0, 93, 0), (93, .getfield 28, 96, 0), (96, .iload 6, 98, 0), (98, .baload, 99, 0), (99, .ifCond .ne 103, 102, 202), (102, .aload_n 0, 103, 0), (103, .iload 6, 105, 0), (105, .iload 5, 107, 0), (107, .invokevirtual 98, 110, 0), (110, .ifCond .ne 92, 113, 202), (113, .aload_n 0, 114, 0), (114, .iload 6, 116, 0), (116, .iload 4, 118, 0), (118, .aload_n 0, 119, 0), (119, .getfield 65, 122, 0), (122, .iload 5, 124, 0), (124, .iaload, 125, 0), (125, .invokevirtual 102, 128, 0), (128, .istore 7, 130, 0), (130, .iload 7, 132, 0), (132, .ifCond .lt 70, 135, 202), (135, .aload_n 0, 136, 0), (136, .getfield 56, 139, 0), (139, .iload 5, 141, 0), (141, .iload 6, 143, 0), (143, .iastore, 144, 0), (144, .aload_n 0, 145, 0), (145, .getfield 59, 148, 0), (148, .iload 5, 150, 0), (150, .iload 7, 152, 0), (152, .iastore, 153, 0), (153, .iinc 5 1, 156, 0), (156, .aload_n 0, 157, 0), (157, .getfield 62, 160, 0), (160, .iload 5, 162, 0), (162, .aload_n 0, 163, 0), (163, .getfield 13, 166, 0), (166, .iload 6, 168, 0), (168, .iaload, 169, 0), (169, .iastore, 170, 0), (170, .aload_n 0, 171, 0), (171, .getfield 65, 174, 0), (174, .iload 5, 176, 0), (176, .aload_n 0, 177, 0), (177, .iload 6, 179, 0), (179, .iload 4, 181, 0), (181, .iload 7, 183, 0), (183, .invokevirtual 106, 186, 0), (186, .iastore, 187, 0), (187, .aload_n 0, 188, 0), (188, .getfield 68, 191, 0), (191, .iload 5, 193, 0), (193, .iconst 0, 194, 0), (194, .iastore, 195, 0), (195, .aload_n 0, 196, 0), (196, .iload 5, 198, 0), (198, .iload_n 3, 199, 0), (199, .invokevirtual 109, 202, 0), (202, .goto (-173), 205, 29), (205, .aload_n 0, 206, 0), (206, .getfield 89, 209, 0), (209, .ifCond .le 7, 212, 216), (212, .iconst 1, 213, 0), (213, .goto 4, 216, 217), (216, .iconst 0, 217, 0), (217, .ireturn, 218, 0)]
set_option maxRecDepth 100000 in
theorem hM_findBest : EM_findBest.all (okE_ cX1_findBest 8) = true := by decide +kernel
def EM_isTried : List (Nat × Ent_) := [(0, .iconst 0, 1, 0), (1, .istore_n 3, 2, 0), (2, .iload_n 3, 3, 0), (3, .iload_n 2, 4, 0), (4, .if_icmp .ge 21, 7, 25), (7, .aload_n 0, 8, 0), (8, .getfield 56, 11, 0), (11, .iload_n 3, 12, 0), (12, .iaload, 13, 0), (13, .iload_n 1, 14, 0), (14, .if_icmp .ne 5, 17, 19), (17, .iconst 1, 18, 0), (18, .ireturn, 19, 0), (19, .iinc 3 1, 22, 0), (22, .goto (-20), 25, 2), (25, .iconst 0, 26, 0), (26, .ireturn, 27, 0)]
set_option maxRecDepth 100000 in
theorem hM_isTried : EM_isTried.all (okE_ cX1_isTried 4) = true := by decide +kernel
def EM_earliest : List (Nat × Ent_) := [(0, .aload_n 0, 1, 0), (1, .iload_n 1, 2, 0), (2, .iload_n 2, 3, 0), (3, .invokevirtual 77, 6, 0), (6, .istore 4, 8, 0), (8, .iload_n 3, 9, 0), (9, .aload_n 0, 10, 0), (10, .getfield 16, 13, 0), (13, .iload_n 1, 14, 0), (14, .iaload, 15, 0), (15, .if_icmp .le 7, 18, 22), (18, .iload_n 3, 19, 0), (19, .goto 9, 22, 28), (22, .aload_n 0, 23, 0), (23, .getfield 16, 26, 0), (26, .iload_n 1, 27, 0), (27, .iaload, 28, 0), (28, .istore 5, 30, 0), (30, .iload 5, 32, 0), (32, .istore 6, 34, 0), (34, .iload 6, 36, 0), (36, .aload_n 0, 37, 0), (37, .getfield 19, 40, 0), (40, .iload_n 1, 41, 0), (41, .iaload, 42, 0), (42, .iload 4, 44, 0), (44, .isub, 45, 0), (45, .if_icmp .gt 27, 48, 72), (48, .aload_n 0, 49, 0), (49, .iload_n 1, 50, 0), (50, .iload 6, 52, 0), (52, .iload 6, 54, 0), (54, .iload 4, 56, 0), (56, .iadd, 57, 0), (57, .invokevirtual 85, 60, 0), (60, .ifCond .eq 6, 63, 66), (63, .iload 6, 65, 0), (65, .ireturn, 66, 0), (66, .iinc 6 1, 69, 0), (69, .goto (-35), 72, 34), (72, .iconst (-1), 73, 0), (73, .ireturn, 74, 0)]
set_option maxRecDepth 100000 in
theorem hM_earliest : EM_earliest.all (okE_ cX1_earliest 7) = true := by decide +kernel
def EM_isFree : List (Nat × Ent_) := [(0, .iconst 0, 1, 0), (1, .istore 4, 3, 0), (3, .iload 4, 5, 0), (5, .aload_n 0, 6, 0), (6, .getfield 81, 9, 0), (9, .if_icmp .ge 88, 12, 97), (12, .bipush 64, 14, 0), (14, .iload 4, 16, 0), (16, .imul, 17, 0), (17, .istore 5, 19, 0), (19, .iload 5, 21, 0), (21, .bipush 64, 23, 0), (23, .iload 4, 25, 0), (25, .imul, 26, 0), (26, .aload_n 0, 27, 0), (27, .getfield 47, 30, 0), (30, .iload 4, 32, 0), (32, .iaload, 33, 0), (33, .iadd, 34, 0), (34, .if_icmp .ge 57, 37, 91), (37, .aload_n 0, 38, 0), (38, .getfield 50, 41, 0), (41, .iload 5, 43, 0), (43, .iaload, 44, 0), (44, .iload_n 1, 45, 0), (45, .if_icmp .ne 40, 48, 85), (48, .aload_n 0, 49, 0), (49, .getfield 53, 52, 0), (52, .iload 5, 54, 0), (54, .iaload, 55, 0), (55, .iload_n 3, 56, 0), (56, .if_icmp .ge 29, 59, 85), (59, .iload_n 2, 60, 0), (60, .aload_n 0, 61, 0), (61, .getfield 53, 64, 0), (64, .iload 5, 66, 0), (66, .iaload, 67, 0), (67, .aload_n 0, 68, 0), (68, .iload_n 1, 69, 0), (69, .aload_n 0, 70, 0), (70, .getfield 38, 73, 0), (73, .iload 4, 75, 0), (75, .iaload, 76, 0), (76, .invokevirtual 77, 79, 0), (79, .iadd, 80, 0), (80, .if_icmp .ge 5, 83, 85), (83, .iconst 0, 84, 0), (84, .ireturn, 85, 0), (85, .iinc 5 1, 88, 0), (88, .goto (-69), 91, 19), (91, .iinc 4 1, 94, 0), (94, .goto (-91), 97, 3), (97, .iconst 1, 98, 0), (98, .ireturn, 99, 0)]
set_option maxRecDepth 100000 in
theorem hM_isFree : EM_isFree.all (okE_ cX1_isFree 6) = true := by decide +kernel
def EM_keep : List (Nat × Ent_) := [(0, .iload_n 1, 1, 0), (1, .ifCond .eq 13, 4, 14), (4, .aload_n 0, 5, 0), (5, .getfield 62, 8, 0), (8, .iload_n 1, 9, 0), (9, .iaload, 10, 0), (10, .iload_n 2, 11, 0), (11, .if_icmp .eq 4, 14, 15), (14, .return_, 15, 0), (15, .aload_n 0, 16, 0), (16, .getfield 89, 19, 0), (19, .ifCond .eq 37, 22, 56), (22, .aload_n 0, 23, 0), (23, .getfield 65, 26, 0), (26, .iload_n 1, 27, 0), (27, .iaload, 28, 0), (28, .aload_n 0, 29, 0), (29, .getfield 92, 32, 0), (32, .if_icmp .lt 24, 35, 56), (35, .aload_n 0, 36, 0), (36, .getfield 65, 39, 0), (39, .iload_n 1, 40, 0), (40, .iaload, 41, 0), (41, .aload_n 0, 42, 0), (42, .getfield 92, 45, 0), (45, .if_icmp .ne 15, 48, 60), (48, .iload_n 1, 49, 0), (49, .aload_n 0, 50, 0), (50, .getfield 89, 53, 0), (53, .if_icmp .ge 7, 56, 60), (56, .iconst 1, 57, 0), (57, .goto 4, 60, 61), (60, .iconst 0, 61, 0), (61, .istore_n 3, 62, 0), (62, .iload_n 3, 63, 0), (63, .ifCond .ne 4, 66, 67), (66, .return_, 67, 0), (67, .aload_n 0, 68, 0), (68, .iload_n 1, 69, 0), (69, .putfield 89, 72, 0), (72, .aload_n 0, 73, 0), (73, .aload_n 0, 74, 0), (74, .getfield 65, 77, 0), (77, .iload_n 1, 78, 0), (78, .iaload, 79, 0), (79, .putfield 92, 82, 0), (82, .iconst 0, 83, 0), (83, .istore 4, 85, 0), (85, .iload 4, 87, 0), (87, .iload_n 1, 88, 0), (88, .if_icmp .ge 37, 91, 125), (91, .aload_n 0, 92, 0), (92, .getfield 71, 95, 0), (95, .iload 4, 97, 0), (97, .aload_n 0, 98, 0), (98, .getfield 56, 101, 0), (101, .iload 4, 103, 0), (103, .iaload, 104, 0), (104, .iastore, 105, 0), (105, .aload_n 0, 106, 0), (106, .getfield 74, 109, 0), (109, .iload 4, 111, 0), (111, .aload_n 0, 112, 0), (112, .getfield 59, 115, 0), (115, .iload 4, 117, 0), (117, .iaload, 118, 0), (118, .iastore, 119, 0), (119, .iinc 4 1, 122, 0), (122, .goto (-37), 125, 85), (125, .return_, 126, 0)]
set_option maxRecDepth 100000 in
theorem hM_keep : EM_keep.all (okE_ cX1_keep 5) = true := by decide +kernel
def EM_cancel : List (Nat × Ent_) := [(0, .iload_n 1, 1, 0), (1, .ifCond .lt 20, 4, 21), (4, .iload_n 1, 5, 0), (5, .aload_n 0, 6, 0), (6, .getfield 95, 9, 0), (9, .if_icmp .ge 12, 12, 21), (12, .aload_n 0, 13, 0), (13, .getfield 28, 16, 0), (16, .iload_n 1, 17, 0), (17, .baload, 18, 0), (18, .ifCond .eq 5, 21, 23), (21, .iconst (-1), 22, 0), (22, .ireturn, 23, 0), (23, .aload_n 0, 24, 0), (24, .getfield 28, 27, 0), (27, .iload_n 1, 28, 0), (28, .iconst 1, 29, 0), (29, .bastore, 30, 0), (30, .iconst 0, 31, 0), (31, .istore_n 2, 32, 0), (32, .iconst 0, 33, 0), (33, .istore_n 3, 34, 0), (34, .iconst 0, 35, 0), (35, .istore 4, 37, 0), (37, .iload 4, 39, 0), (39, .aload_n 0, 40, 0), (40, .getfield 81, 43, 0), (43, .if_icmp .ge 42, 46, 85), (46, .aload_n 0, 47, 0), (47, .iload 4, 49, 0), (49, .iload_n 1, 50, 0), (50, .invokevirtual 138, 53, 0), (53, .istore 5, 55, 0), (55, .iload 5, 57, 0), (57, .ifCond .lt 22, 60, 79), (60, .aload_n 0, 61, 0), (61, .getfield 47, 64, 0), (64, .iload 4, 66, 0), (66, .iload 5, 68, 0), (68, .iastore, 69, 0), (69, .iload_n 2, 70, 0), (70, .iconst 1, 71, 0), (71, .iload 4, 73, 0), (73, .ishl, 74, 0), (74, .ior, 75, 0), (75, .istore_n 2, 76, 0), (76, .iinc 3 1, 79, 0), (79, .iinc 4 1, 82, 0), (82, .goto (-45), 85, 37), (85, .iconst 0, 86, 0), (86, .istore 4, 88, 0), (88, .iload 4, 90, 0), (90, .aload_n 0, 91, 0), (91, .getfield 81, 94, 0), (94, .if_icmp .ge 25, 97, 119), (97, .iload_n 2, 98, 0), (98, .iload 4, 100, 0), (100, .ishr, 101, 0), (101, .iconst 1, 102, 0), (102, .iand, 103, 0), (103, .iconst 1, 104, 0), (104, .if_icmp .ne 9, 107, 113), (107, .aload_n 0, 108, 0), (108, .iload 4, 110, 0), (110, .invokevirtual 127, 113, 0), (113, .iinc 4 1, 116, 0), (116, .goto (-28), 119, 88), (119, .aload_n 0, 120, 0), (120, .invokevirtual 135, 123, 0), (123, .iload_n 3, 124, 0), (124, .ireturn, 125, 0)]
set_option maxRecDepth 100000 in
theorem hM_cancel : EM_cancel.all (okE_ cX1_cancel 6) = true := by decide +kernel
def EM_hitAt : List (Nat × Ent_) := [(0, .iconst 0, 1, 0), (1, .istore_n 3, 2, 0), (2, .iload_n 3, 3, 0), (3, .aload_n 0, 4, 0), (4, .getfield 47, 7, 0), (7, .iload_n 1, 8, 0), (8, .iaload, 9, 0), (9, .if_icmp .ge 56, 12, 65), (12, .aload_n 0, 13, 0), (13, .getfield 50, 16, 0), (16, .bipush 64, 18, 0), (18, .iload_n 1, 19, 0), (19, .imul, 20, 0), (20, .iload_n 3, 21, 0), (21, .iadd, 22, 0), (22, .iaload, 23, 0), (23, .iload_n 2, 24, 0), (24, .if_icmp .ne 35, 27, 59), (27, .aload_n 0, 28, 0), (28, .getfield 53, 31, 0), (31, .bipush 64, 33, 0), (33, .iload_n 1, 34, 0), (34, .imul, 35, 0), (35, .iload_n 3, 36, 0), (36, .iadd, 37, 0), (37, .iaload, 38, 0), (38, .aload_n 0, 39, 0), (39, .iload_n 2, 40, 0), (40, .aload_n 0, 41, 0), (41, .getfield 38, 44, 0), (44, .iload_n 1, 45, 0), (45, .iaload, 46, 0), (46, .invokevirtual 77, 49, 0), (49, .iadd, 50, 0), (50, .aload_n 0, 51, 0), (51, .getfield 117, 54, 0), (54, .if_icmp .le 5, 57, 59), (57, .iload_n 3, 58, 0), (58, .ireturn, 59, 0), (59, .iinc 3 1, 62, 0), (62, .goto (-60), 65, 2), (65, .iconst (-1), 66, 0), (66, .ireturn, 67, 0)]
set_option maxRecDepth 100000 in
theorem hM_hitAt : EM_hitAt.all (okE_ cX1_hitAt 4) = true := by decide +kernel
def EM_booked : List (Nat × Ent_) := [(0, .iload_n 1, 1, 0), (1, .ifCond .lt 11, 4, 12), (4, .iload_n 1, 5, 0), (5, .aload_n 0, 6, 0), (6, .getfield 95, 9, 0), (9, .if_icmp .lt 5, 12, 14), (12, .iconst (-1), 13, 0), (13, .ireturn, 14, 0), (14, .aload_n 0, 15, 0), (15, .getfield 28, 18, 0), (18, .iload_n 1, 19, 0), (19, .baload, 20, 0), (20, .ifCond .eq 6, 23, 26), (23, .bipush (-2), 25, 0), (25, .ireturn, 26, 0), (26, .iconst 0, 27, 0), (27, .istore_n 2, 28, 0), (28, .iconst 0, 29, 0), (29, .istore_n 3, 30, 0), (30, .iload_n 3, 31, 0), (31, .aload_n 0, 32, 0), (32, .getfield 81, 35, 0), (35, .if_icmp .ge 62, 38, 97), (38, .bipush 64, 40, 0), (40, .iload_n 3, 41, 0), (41, .imul, 42, 0), (42, .istore 4, 44, 0), (44, .iload 4, 46, 0), (46, .bipush 64, 48, 0), (48, .iload_n 3, 49, 0), (49, .imul, 50, 0), (50, .aload_n 0, 51, 0), (51, .getfield 47, 54, 0), (54, .iload_n 3, 55, 0), (55, .iaload, 56, 0), (56, .iadd, 57, 0), (57, .if_icmp .ge 34, 60, 91), (60, .aload_n 0, 61, 0), (61, .getfield 50, 64, 0), (64, .iload 4, 66, 0), (66, .iaload, 67, 0), (67, .iload_n 1, 68, 0), (68, .if_icmp .ne 17, 71, 85), (71, .iload_n 2, 72, 0), (72, .aload_n 0, 73, 0), (73, .iload_n 1, 74, 0), (74, .aload_n 0, 75, 0), (75, .getfield 38, 78, 0), (78, .iload_n 3, 79, 0), (79, .iaload, 80, 0), (80, .invokevirtual 77, 83, 0), (83, .iadd, 84, 0), (84, .istore_n 2, 85, 0), (85, .iinc 4 1, 88, 0), (88, .goto (-44), 91, 44), (91, .iinc 3 1, 94, 0), (94, .goto (-64), 97, 30), (97, .iload_n 2, 98, 0), (98, .ireturn, 99, 0)]
set_option maxRecDepth 100000 in
theorem hM_booked : EM_booked.all (okE_ cX1_booked 5) = true := by decide +kernel
def EM_send : List (Nat × Ent_) := [(0, .aload_n 0, 1, 0), (1, .iload_n 1, 2, 0), (2, .invokevirtual 131, 5, 0), (5, .ifCond .ne 11, 8, 16), (8, .aload_n 0, 9, 0), (9, .iload_n 2, 10, 0), (10, .invokevirtual 141, 13, 0), (13, .ifCond .eq 5, 16, 18), (16, .iconst (-1), 17, 0), (17, .ireturn, 18, 0), (18, .aload_n 0, 19, 0), (19, .getfield 81, 22, 0), (22, .bipush 10, 24, 0), (24, .if_icmp .ne 6, 27, 30), (27, .bipush (-3), 29, 0), (29, .ireturn, 30, 0), (30, .aload_n 0, 31, 0), (31, .getfield 81, 34, 0), (34, .istore 4, 36, 0), (36, .aload_n 0, 37, 0), (37, .getfield 32, 40, 0), (40, .iload 4, 42, 0), (42, .iload_n 1, 43, 0), (43, .bipush 6, 45, 0), (45, .idiv, 46, 0), (46, .iastore, 47, 0), (47, .aload_n 0, 48, 0), (48, .getfield 35, 51, 0), (51, .iload 4, 53, 0), (53, .iload_n 1, 54, 0), (54, .bipush 6, 56, 0), (56, .irem, 57, 0), (57, .iastore, 58, 0), (58, .aload_n 0, 59, 0), (59, .getfield 38, 62, 0), (62, .iload 4, 64, 0), (64, .iload_n 2, 65, 0), (65, .iastore, 66, 0), (66, .aload_n 0, 67, 0), (67, .getfield 41, 70, 0), (70, .iload 4, 72, 0), (72, .iload_n 3, 73, 0), (73, .iastore, 74, 0), (74, .aload_n 0, 75, 0), (75, .getfield 47, 78, 0), (78, .iload 4, 80, 0), (80, .iconst 0, 81, 0), (81, .iastore, 82, 0), (82, .aload_n 0, 83, 0), (83, .dup, 84, 0), (84, .getfield 81, 87, 0), (87, .iconst 1, 88, 0), (88, .iadd, 89, 0), (89, .putfield 81, 92, 0), (92, .aload_n 0, 93, 0), (93, .iload 4, 95, 0), (95, .invokevirtual 127, 98, 0), (98, .iload 4, 100, 0), (100, .ireturn, 101, 0)]
set_option maxRecDepth 100000 in
theorem hM_send : EM_send.all (okE_ cX1_send 5) = true := by decide +kernel
def EM_badSize : List (Nat × Ent_) := [(0, .iload_n 1, 1, 0), (1, .iconst 1, 2, 0), (2, .if_icmp .lt 9, 5, 11), (5, .iload_n 1, 6, 0), (6, .bipush 30, 8, 0), (8, .if_icmp .le 7, 11, 15), (11, .iconst 1, 12, 0), (12, .goto 4, 15, 16), (15, .iconst 0, 16, 0), (16, .ireturn, 17, 0)]
set_option maxRecDepth 100000 in
theorem hM_badSize : EM_badSize.all (okE_ cX1_badSize 2) = true := by decide +kernel
def EM_pass : List (Nat × Ent_) := [(0, .iload_n 1, 1, 0), (1, .ifCond .lt 10, 4, 11), (4, .iload_n 1, 5, 0), (5, .sipush 200, 8, 0), (8, .if_icmp .le 5, 11, 13), (11, .iconst (-1), 12, 0), (12, .ireturn, 13, 0), (13, .aload_n 0, 14, 0), (14, .dup, 15, 0), (15, .getfield 117, 18, 0), (18, .iload_n 1, 19, 0), (19, .iadd, 20, 0), (20, .putfield 117, 23, 0), (23, .aload_n 0, 24, 0), (24, .getfield 117, 27, 0), (27, .ireturn, 28, 0)]
set_option maxRecDepth 100000 in
theorem hM_pass : EM_pass.all (okE_ cX1_pass 2) = true := by decide +kernel
def EM_time : List (Nat × Ent_) := [(0, .aload_n 0, 1, 0), (1, .getfield 117, 4, 0), (4, .ireturn, 5, 0)]
set_option maxRecDepth 100000 in
theorem hM_time : EM_time.all (okE_ cX1_time 1) = true := by decide +kernel
def EM_state : List (Nat × Ent_) := [(0, .aload_n 0, 1, 0), (1, .iload_n 1, 2, 0), (2, .invokevirtual 144, 5, 0), (5, .ifCond .eq 5, 8, 10), (8, .iconst (-1), 9, 0), (9, .ireturn, 10, 0), (10, .aload_n 0, 11, 0), (11, .getfield 44, 14, 0), (14, .iload_n 1, 15, 0), (15, .baload, 16, 0), (16, .ifCond .eq 5, 19, 21), (19, .iconst 0, 20, 0), (20, .ireturn, 21, 0), (21, .aload_n 0, 22, 0), (22, .iload_n 1, 23, 0), (23, .invokevirtual 113, 26, 0), (26, .aload_n 0, 27, 0), (27, .getfield 117, 30, 0), (30, .if_icmp .gt 7, 33, 37), (33, .iconst 2, 34, 0), (34, .goto 4, 37, 38), (37, .iconst 1, 38, 0), (38, .ireturn, 39, 0)]
set_option maxRecDepth 100000 in
theorem hM_state : EM_state.all (okE_ cX1_state 2) = true := by decide +kernel
def EM_badBundle : List (Nat × Ent_) := [(0, .iload_n 1, 1, 0), (1, .ifCond .lt 11, 4, 12), (4, .iload_n 1, 5, 0), (5, .aload_n 0, 6, 0), (6, .getfield 81, 9, 0), (9, .if_icmp .lt 7, 12, 16), (12, .iconst 1, 13, 0), (13, .goto 4, 16, 17), (16, .iconst 0, 17, 0), (17, .ireturn, 18, 0)]
set_option maxRecDepth 100000 in
theorem hM_badBundle : EM_badBundle.all (okE_ cX1_badBundle 2) = true := by decide +kernel
def EM_arrival : List (Nat × Ent_) := [(0, .aload_n 0, 1, 0), (1, .iload_n 1, 2, 0), (2, .invokevirtual 144, 5, 0), (5, .ifCond .eq 5, 8, 10), (8, .iconst (-1), 9, 0), (9, .ireturn, 10, 0), (10, .aload_n 0, 11, 0), (11, .getfield 44, 14, 0), (14, .iload_n 1, 15, 0), (15, .baload, 16, 0), (16, .ifCond .eq 8, 19, 24), (19, .bipush (-2), 21, 0), (21, .goto 8, 24, 29), (24, .aload_n 0, 25, 0), (25, .iload_n 1, 26, 0), (26, .invokevirtual 113, 29, 0), (29, .ireturn, 30, 0)]
set_option maxRecDepth 100000 in
theorem hM_arrival : EM_arrival.all (okE_ cX1_arrival 2) = true := by decide +kernel
def EM_hops : List (Nat × Ent_) := [(0, .aload_n 0, 1, 0), (1, .iload_n 1, 2, 0), (2, .invokevirtual 144, 5, 0), (5, .ifCond .eq 7, 8, 12), (8, .iconst (-1), 9, 0), (9, .goto 9, 12, 18), (12, .aload_n 0, 13, 0), (13, .getfield 47, 16, 0), (16, .iload_n 1, 17, 0), (17, .iaload, 18, 0), (18, .ireturn, 19, 0)]
set_option maxRecDepth 100000 in
theorem hM_hops : EM_hops.all (okE_ cX1_hops 2) = true := by decide +kernel
def EM_hop : List (Nat × Ent_) := [(0, .aload_n 0, 1, 0), (1, .iload_n 1, 2, 0), (2, .invokevirtual 144, 5, 0), (5, .ifCond .eq 5, 8, 10), (8, .iconst (-1), 9, 0), (9, .ireturn, 10, 0), (10, .iload_n 2, 11, 0), (11, .ifCond .lt 13, 14, 24), (14, .iload_n 2, 15, 0), (15, .aload_n 0, 16, 0), (16, .getfield 47, 19, 0), (19, .iload_n 1, 20, 0), (20, .iaload, 21, 0), (21, .if_icmp .lt 8, 24, 29), (24, .bipush (-2), 26, 0), (26, .goto 30, 29, 56), (29, .sipush 1000, 32, 0), (32, .aload_n 0, 33, 0), (33, .getfield 50, 36, 0), (36, .bipush 64, 38, 0), (38, .iload_n 1, 39, 0), (39, .imul, 40, 0), (40, .iload_n 2, 41, 0), (41, .iadd, 42, 0), (42, .iaload, 43, 0), (43, .imul, 44, 0), (44, .aload_n 0, 45, 0), (45, .getfield 53, 48, 0), (48, .bipush 64, 50, 0), (50, .iload_n 1, 51, 0), (51, .imul, 52, 0), (52, .iload_n 2, 53, 0), (53, .iadd, 54, 0), (54, .iaload, 55, 0), (55, .iadd, 56, 0), (56, .ireturn, 57, 0)]
set_option maxRecDepth 100000 in
theorem hM_hop : EM_hop.all (okE_ cX1_hop 3) = true := by decide +kernel
def EM_place : List (Nat × Ent_) := [(0, .aload_n 0, 1, 0), (1, .iload_n 1, 2, 0), (2, .invokevirtual 144, 5, 0), (5, .ifCond .eq 5, 8, 10), (8, .iconst (-1), 9, 0), (9, .ireturn, 10, 0), (10, .aload_n 0, 11, 0), (11, .getfield 32, 14, 0), (14, .iload_n 1, 15, 0), (15, .iaload, 16, 0), (16, .istore_n 2, 17, 0), (17, .bipush 64, 19, 0), (19, .iload_n 1, 20, 0), (20, .imul, 21, 0), (21, .istore_n 3, 22, 0), (22, .iload_n 3, 23, 0), (23, .bipush 64, 25, 0), (25, .iload_n 1, 26, 0), (26, .imul, 27, 0), (27, .aload_n 0, 28, 0), (28, .getfield 47, 31, 0), (31, .iload_n 1, 32, 0), (32, .iaload, 33, 0), (33, .iadd, 34, 0), (34, .if_icmp .ge 77, 37, 111), (37, .aload_n 0, 38, 0), (38, .aload_n 0, 39, 0), (39, .getfield 50, 42, 0), (42, .iload_n 3, 43, 0), (43, .iaload, 44, 0), (44, .aload_n 0, 45, 0), (45, .getfield 38, 48, 0), (48, .iload_n 1, 49, 0), (49, .iaload, 50, 0), (50, .aload_n 0, 51, 0), (51, .getfield 53, 54, 0), (54, .iload_n 3, 55, 0), (55, .iaload, 56, 0), (56, .invokevirtual 106, 59, 0), (59, .aload_n 0, 60, 0), (60, .getfield 117, 63, 0), (63, .if_icmp .le 30, 66, 93), (66, .aload_n 0, 67, 0), (67, .getfield 53, 70, 0), (70, .iload_n 3, 71, 0), (71, .iaload, 72, 0), (72, .aload_n 0, 73, 0), (73, .getfield 117, 76, 0), (76, .if_icmp .ge 15, 79, 91), (79, .bipush 10, 81, 0), (81, .aload_n 0, 82, 0), (82, .getfield 50, 85, 0), (85, .iload_n 3, 86, 0), (86, .iaload, 87, 0), (87, .iadd, 88, 0), (88, .goto 4, 91, 92), (91, .iload_n 2, 92, 0), (92, .ireturn, 93, 0), (93, .aload_n 0, 94, 0), (94, .getfield 13, 97, 0), (97, .aload_n 0, 98, 0), (98, .getfield 50, 101, 0), (101, .iload_n 3, 102, 0), (102, .iaload, 103, 0), (103, .iaload, 104, 0), (104, .istore_n 2, 105, 0), (105, .iinc 3 1, 108, 0), (108, .goto (-86), 111, 22), (111, .iload_n 2, 112, 0), (112, .ireturn, 113, 0)]
set_option maxRecDepth 100000 in
theorem hM_place : EM_place.all (okE_ cX1_place 4) = true := by decide +kernel
def EM_quote : List (Nat × Ent_) := [(0, .aload_n 0, 1, 0), (1, .iload_n 1, 2, 0), (2, .invokevirtual 131, 5, 0), (5, .ifCond .ne 11, 8, 16), (8, .aload_n 0, 9, 0), (9, .iload_n 2, 10, 0), (10, .invokevirtual 141, 13, 0), (13, .ifCond .eq 5, 16, 18), (16, .iconst (-1), 17, 0), (17, .ireturn, 18, 0), (18, .aload_n 0, 19, 0), (19, .iload_n 1, 20, 0), (20, .bipush 6, 22, 0), (22, .idiv, 23, 0), (23, .aload_n 0, 24, 0), (24, .getfield 117, 27, 0), (27, .iload_n 1, 28, 0), (28, .bipush 6, 30, 0), (30, .irem, 31, 0), (31, .iload_n 2, 32, 0), (32, .invokevirtual 123, 35, 0), (35, .ifCond .eq 10, 38, 45), (38, .aload_n 0, 39, 0), (39, .getfield 92, 42, 0), (42, .goto 5, 45, 47), (45, .bipush (-2), 47, 0), (47, .ireturn, 48, 0)]
set_option maxRecDepth 100000 in
theorem hM_quote : EM_quote.all (okE_ cX1_quote 3) = true := by decide +kernel
def EM_reach : List (Nat × Ent_) := [(0, .iload_n 1, 1, 0), (1, .ifCond .lt 16, 4, 17), (4, .iload_n 1, 5, 0), (5, .iconst 5, 6, 0), (6, .if_icmp .gt 11, 9, 17), (9, .aload_n 0, 10, 0), (10, .iload_n 2, 11, 0), (11, .invokevirtual 141, 14, 0), (14, .ifCond .eq 5, 17, 19), (17, .iconst (-1), 18, 0), (18, .ireturn, 19, 0), (19, .iconst 1, 20, 0), (20, .iload_n 1, 21, 0), (21, .ishl, 22, 0), (22, .istore 4, 24, 0), (24, .iconst 0, 25, 0), (25, .istore 5, 27, 0), (27, .iload 5, 29, 0), (29, .bipush 6, 31, 0), (31, .if_icmp .ge 47, 34, 78), (34, .iload 5, 36, 0), (36, .iload_n 1, 37, 0), (37, .if_icmp .eq 35, 40, 72), (40, .aload_n 0, 41, 0), (41, .iload_n 1, 42, 0), (42, .aload_n 0, 43, 0), (43, .getfield 117, 46, 0), (46, .iload 5, 48, 0), (48, .iload_n 2, 49, 0), (49, .invokevirtual 123, 52, 0), (52, .ifCond .eq 20, 55, 72), (55, .aload_n 0, 56, 0), (56, .getfield 92, 59, 0), (59, .iload_n 3, 60, 0), (60, .if_icmp .gt 12, 63, 72), (63, .iload 4, 65, 0), (65, .iconst 1, 66, 0), (66, .iload 5, 68, 0), (68, .ishl, 69, 0), (69, .ior, 70, 0), (70, .istore 4, 72, 0), (72, .iinc 5 1, 75, 0), (75, .goto (-48), 78, 27), (78, .iload 4, 80, 0), (80, .ireturn, 81, 0)]
set_option maxRecDepth 100000 in
theorem hM_reach : EM_reach.all (okE_ cX1_reach 6) = true := by decide +kernel
def EM_latest : List (Nat × Ent_) := [(0, .aload_n 0, 1, 0), (1, .iload_n 1, 2, 0), (2, .invokevirtual 131, 5, 0), (5, .ifCond .ne 11, 8, 16), (8, .aload_n 0, 9, 0), (9, .iload_n 2, 10, 0), (10, .invokevirtual 141, 13, 0), (13, .ifCond .eq 5, 16, 18), (16, .iconst (-1), 17, 0), (17, .ireturn, 18, 0), (18, .bipush 100, 20, 0), (20, .istore 4, 22, 0), (22, .iload 4, 24, 0), (24, .aload_n 0, 25, 0), (25, .getfield 117, 28, 0), (28, .if_icmp .lt 38, 31, 66), (31, .aload_n 0, 32, 0), (32, .iload_n 1, 33, 0), (33, .bipush 6, 35, 0), (35, .idiv, 36, 0), (36, .iload 4, 38, 0), (38, .iload_n 1, 39, 0), (39, .bipush 6, 41, 0), (41, .irem, 42, 0), (42, .iload_n 2, 43, 0), (43, .invokevirtual 123, 46, 0), (46, .ifCond .eq 14, 49, 60), (49, .aload_n 0, 50, 0), (50, .getfield 92, 53, 0), (53, .iload_n 3, 54, 0), (54, .if_icmp .gt 6, 57, 60), (57, .iload 4, 59, 0), (59, .ireturn, 60, 0), (60, .iinc 4 (-1), 63, 0), (63, .goto (-41), 66, 22), (66, .bipush (-4), 68, 0), (68, .ireturn, 69, 0)]
set_option maxRecDepth 100000 in
theorem hM_latest : EM_latest.all (okE_ cX1_latest 5) = true := by decide +kernel
end
section
/-! THE NETWORK, PURE: over the component's state X (fields 0..8: contacts, cancelled, from, to, start, end, rate, delay, busy) -/
noncomputable def lst_ (P : Int → Prop) : Int := @dite _ (∃ b, P b ∧ ∀ c, P c → b ≤ c) (Classical.propDecidable _) (fun h => Classical.choose h) (fun _ => -1)
theorem lst_eq {P : Int → Prop} {b : Int} (h : P b) (hm : ∀ c, P c → b ≤ c) : lst_ P = b := by
  have he : ∃ b, P b ∧ ∀ c, P c → b ≤ c := ⟨b, h, hm⟩
  unfold lst_
  rw [dif_pos he]
  have h1 := (Classical.choose_spec he).1
  have h2 := (Classical.choose_spec he).2 b h
  have h3 := hm _ h1
  omega
theorem lst_none {P : Int → Prop} (h : ∀ b, ¬ P b) : lst_ P = -1 := by
  unfold lst_
  rw [dif_neg (fun q => h _ q.choose_spec.1)]
theorem lst_min {P : Int → Prop} (lo : Int) (hlo : ∀ b, P b → lo ≤ b) : ∀ (n : Nat) (b : Int), P b → b ≤ lo + n → ∃ b, P b ∧ ∀ c, P c → b ≤ c := by
  intro n
  induction n with
  | zero =>
    intro b hb h
    exact ⟨b, hb, fun c hc => by have := hlo c hc; omega⟩
  | succ n ih =>
    intro b hb h
    by_cases hex : ∃ c, P c ∧ c < b
    · obtain ⟨c, hc, hcb⟩ := hex
      exact ih c hc (by omega)
    · refine ⟨b, hb, fun c hc => ?_⟩
      apply Int.not_lt.mp
      intro hlt
      exact hex ⟨c, hc, hlt⟩
theorem lst_cases {P : Int → Prop} (lo : Int) (hlo : ∀ b, P b → lo ≤ b) : (lst_ P = -1 ∧ ∀ b, ¬ P b) ∨ (P (lst_ P) ∧ ∀ c, P c → lst_ P ≤ c) := by
  by_cases h : ∃ b, P b
  · right
    obtain ⟨b, hb⟩ := h
    obtain ⟨d, hd, hm⟩ := lst_min lo hlo (b - lo).toNat b hb (by have := hlo b hb; omega)
    rw [lst_eq hd hm]
    exact ⟨hd, hm⟩
  · left
    have h' : ∀ b, ¬ P b := fun b hb => h ⟨b, hb⟩
    exact ⟨lst_none h', h'⟩
/-- reading a written state -/
theorem up_at (X : St_) (f : Nat) (i v : Int) : up_ X f i v f i = v := by simp [up_]
theorem up_ne (X : St_) {f g : Nat} (i v j : Int) (h : g ≠ f) : up_ X f i v g j = X g j := by simp [up_, h]
theorem up_nei (X : St_) (f g : Nat) {i j : Int} (v : Int) (h : j ≠ i) : up_ X f i v g j = X g j := by simp [up_, h]
def nt_ (X : St_) : St_ := fun f i => if f ≤ 8 then X f i else 0
theorem nt_at (X : St_) {f : Nat} (h : f ≤ 8) (i : Int) : nt_ X f i = X f i := by unfold nt_; rw [if_pos h]
theorem nt_up (X : St_) {f : Nat} (i v : Int) (h : 8 < f) : nt_ (up_ X f i v) = nt_ X := by
  funext g j
  unfold nt_
  by_cases hg : g ≤ 8
  · rw [if_pos hg, if_pos hg, up_ne _ _ _ _ (by omega)]
  · rw [if_neg hg, if_neg hg]
theorem nt_get {X Y : St_} (h : nt_ X = nt_ Y) {f : Nat} (hf : f ≤ 8) (i : Int) : X f i = Y f i := by
  rw [← nt_at X hf, ← nt_at Y hf, h]
/-- the contacts' data are sound -/
def kOK_ (X : St_) (k : Int) : Prop := 0 ≤ X 2 k ∧ X 2 k < 6 ∧ 0 ≤ X 3 k ∧ X 3 k < 6 ∧ 0 ≤ X 4 k ∧ X 4 k < X 5 k ∧ X 5 k ≤ 100 ∧ 1 ≤ X 6 k ∧ X 6 k ≤ 9 ∧ 0 ≤ X 7 k ∧ X 7 k ≤ 9
def nOK_ (X : St_) : Prop := 0 ≤ X 0 0 ∧ X 0 0 ≤ 10 ∧ ∀ k, 0 ≤ k → k < X 0 0 → kOK_ X k
/-- ticks that a size takes on a contact -/
def tk_ (X : St_) (k size : Int) : Int := (size + X 6 k - 1) / X 6 k
theorem tk_pos {X : St_} {k size : Int} (h : 1 ≤ X 6 k) (hs : 1 ≤ size) : 1 ≤ tk_ X k size := by
  unfold tk_
  exact (Int.le_ediv_iff_mul_le (by omega)).mpr (by omega)
theorem tk_le {X : St_} {k size : Int} (h : 1 ≤ X 6 k) (hs : 1 ≤ size) : tk_ X k size ≤ size := by
  unfold tk_
  apply Int.ediv_le_of_le_mul (by omega)
  have h2 : (size - 1) * 1 ≤ (size - 1) * X 6 k := Int.mul_le_mul_of_nonneg_left h (by omega)
  rw [Int.mul_one, Int.sub_mul, Int.one_mul] at h2
  omega
/-- a begin that is possible -/
def okb_ (X : St_) (k ready ticks b : Int) : Prop := ready ≤ b ∧ X 4 k ≤ b ∧ b + ticks ≤ X 5 k ∧ ∀ t, b ≤ t → t < b + ticks → X 8 (101 * k + t) = 0
noncomputable def fb_ (X : St_) (k ready ticks : Int) : Int := lst_ (okb_ X k ready ticks)
theorem fb_cases (X : St_) (k ready ticks : Int) : (fb_ X k ready ticks = -1 ∧ ∀ b, ¬ okb_ X k ready ticks b) ∨ (okb_ X k ready ticks (fb_ X k ready ticks) ∧ ∀ c, okb_ X k ready ticks c → fb_ X k ready ticks ≤ c) :=
  lst_cases (X 4 k) (fun b h => h.2.1)
/-- when a bundle that is ready at a time comes in over a contact -/
noncomputable def cin_ (X : St_) (k ready size : Int) : Int := if X 1 k ≠ 0 ∨ 1000000 ≤ ready ∨ fb_ X k ready (tk_ X k size) < 0 then 1000000 else fb_ X k ready (tk_ X k size) + tk_ X k size + X 7 k
theorem okb_nt {X Y : St_} (h : nt_ X = nt_ Y) (k ready ticks : Int) : okb_ X k ready ticks = okb_ Y k ready ticks := by
  funext b
  unfold okb_
  rw [nt_get h (by decide : 4 ≤ 8), nt_get h (by decide : 5 ≤ 8)]
  have : ∀ i, X 8 i = Y 8 i := fun i => nt_get h (by decide) i
  simp only [this]
theorem tk_nt {X Y : St_} (h : nt_ X = nt_ Y) (k size : Int) : tk_ X k size = tk_ Y k size := by
  unfold tk_
  rw [nt_get h (by decide : 6 ≤ 8)]
theorem fb_nt {X Y : St_} (h : nt_ X = nt_ Y) (k ready ticks : Int) : fb_ X k ready ticks = fb_ Y k ready ticks := by
  unfold fb_
  rw [okb_nt h]
theorem cin_nt {X Y : St_} (h : nt_ X = nt_ Y) (k ready size : Int) : cin_ X k ready size = cin_ Y k ready size := by
  unfold cin_
  rw [nt_get h (by decide : 1 ≤ 8), nt_get h (by decide : 7 ≤ 8), tk_nt h, fb_nt h]
theorem nOK_nt {X Y : St_} (h : nt_ X = nt_ Y) (hX : nOK_ X) : nOK_ Y := by
  unfold nOK_ kOK_ at *
  have e : ∀ f, f ≤ 8 → ∀ i, Y f i = X f i := fun f hf i => (nt_get h hf i).symm
  rw [e 0 (by decide)]
  refine ⟨hX.1, hX.2.1, fun k h0 h1 => ?_⟩
  rw [e 2 (by decide), e 3 (by decide), e 4 (by decide), e 5 (by decide), e 6 (by decide), e 7 (by decide)]
  exact hX.2.2 k h0 h1
/-- being ready earlier never makes it come in later -/
theorem fb_mono {X : St_} {k t t' ticks : Int} (h : t ≤ t') (hf : 0 ≤ fb_ X k t' ticks) : 0 ≤ fb_ X k t ticks ∨ X 4 k < 0 := by
  rcases fb_cases X k t' ticks with ⟨e, -⟩ | ⟨h1, -⟩
  · omega
  · rcases fb_cases X k t ticks with ⟨-, h3⟩ | ⟨h3, h4⟩
    · exact absurd ⟨Int.le_trans h h1.1, h1.2⟩ (h3 _)
    · have := h3.2.1
      omega
theorem cin_bound {X : St_} {k t size : Int} (hk : kOK_ X k) (hs : 1 ≤ size) : cin_ X k t size = 1000000 ∨ (X 1 k = 0 ∧ t < 1000000 ∧ okb_ X k t (tk_ X k size) (fb_ X k t (tk_ X k size)) ∧ cin_ X k t size = fb_ X k t (tk_ X k size) + tk_ X k size + X 7 k ∧ t < cin_ X k t size ∧ cin_ X k t size ≤ 109 ∧ 0 ≤ fb_ X k t (tk_ X k size)) := by
  unfold cin_
  split
  · exact Or.inl rfl
  · rename_i h
    right
    have h1 : X 1 k = 0 := Classical.byContradiction fun q => h (Or.inl q)
    have h2 : t < 1000000 := by apply Int.not_le.mp; intro q; exact h (Or.inr (Or.inl q))
    have h3 : 0 ≤ fb_ X k t (tk_ X k size) := by apply Int.not_lt.mp; intro q; exact h (Or.inr (Or.inr q))
    obtain ⟨a1, a2, a3, a4, a5, a6, a7, a8, a9, a10, a11⟩ := hk
    rcases fb_cases X k t (tk_ X k size) with ⟨e, -⟩ | ⟨h4, -⟩
    · omega
    · have hp := tk_pos (X := X) (k := k) a8 hs
      have := h4.1
      have := h4.2.2.1
      exact ⟨h1, h2, h4, rfl, by omega, by omega, h3⟩
theorem cin_le {X : St_} {k t size : Int} (hk : kOK_ X k) (hs : 1 ≤ size) : cin_ X k t size ≤ 1000000 := by
  rcases cin_bound (t := t) hk hs with h | h <;> omega
theorem cin_mono {X : St_} {k t t' size : Int} (hk : kOK_ X k) (hs : 1 ≤ size) (h : t ≤ t') : cin_ X k t size ≤ cin_ X k t' size := by
  rcases cin_bound (t := t') hk hs with h1 | ⟨b1, b2, b3, b4, b5, b6, b7⟩
  · rw [h1]; exact cin_le hk hs
  · rcases fb_cases X k t (tk_ X k size) with ⟨-, h3⟩ | ⟨h3, h4⟩
    · exact absurd ⟨Int.le_trans h b3.1, b3.2⟩ (h3 _)
    · have h5 := h4 _ ⟨Int.le_trans h b3.1, b3.2⟩
      have h6 := h3.2.1
      obtain ⟨a1, a2, a3, a4, a5, a6, a7, a8, a9, a10, a11⟩ := hk
      rw [b4]
      unfold cin_
      split
      · rename_i q
        rcases q with q | q | q
        · exact absurd b1 q
        · omega
        · omega
      · omega
end
section
/-! THE COMPONENT's SMALL METHODS: ticksFor, firstBegin, comingIn, tests of arguments -/
def pX_ticksFor (k size : Int) (X : St_) : Prop := 0 ≤ k ∧ k < 10 ∧ 1 ≤ size ∧ size ≤ 30 ∧ 1 ≤ X 6 k ∧ X 6 k ≤ 9
def qX_ticksFor (k size : Int) (X : St_) (z : Int) (Y : St_) : Prop := Y = X ∧ z = tk_ X k size
def csX_ticksFor : Cs_ := (2, false, 1, (fun as X => match as with
  | [a, b] => pX_ticksFor a b X
  | _ => False), (fun as X z Y => match as with
  | [a, b] => qX_ticksFor a b X z Y
  | _ => False))
def mX_ticksFor : Mt_ := (LX, [], 1, EX_ticksFor)
theorem sX_ticksFor_0 {Rt : Int → St_ → Prop} {G : Nat → Lo_ → List Vl_ → St_ → Prop} (hG : Clo_ mX_ticksFor Rt G) {X : St_} {k size : Int} (h : 0 ≤ k ∧ k < 10 ∧ zR (size + (X 6 k)) ∧ zR ((size + (X 6 k)) - 1) ∧ 0 ≤ k ∧ k < 10 ∧ 0 ≤ (size + (X 6 k)) - 1 ∧ 0 < X 6 k ∧ Rt (((size + (X 6 k)) - 1) / (X 6 k)) X) : G 0 [some (.inr 25), some (.inl k), some (.inl size)] [] X := run_ hG [] 14 0 _ _ X h
theorem vX_ticksFor {k size : Int} {X : St_} (r1 : zR k) (r2 : zR size) (hX : rgX_ X) (hp : pX_ticksFor k size X) {G : Nat → Lo_ → List Vl_ → St_ → Prop} (hG : Clo_ mX_ticksFor (qX_ticksFor k size X) G) : G 0 [some (.inr 25), some (.inl k), some (.inl size)] [] X := by
  obtain ⟨h1, h2, h3, h4, h5, h6⟩ := hp
  exact sX_ticksFor_0 hG ⟨h1, h2, by omega, by omega, h1, h2, by omega, by omega, rfl, rfl⟩
theorem ckX_ticksFor : ∀ q ∈ mX_ticksFor.2.1, Ck_ 0 RX0 LX 0 q.1 q.2 := fun _ h => absurd h List.not_mem_nil
theorem okX_ticksFor : Cn_ 0 LX yX0_ticksFor cX0_ticksFor 3 0 csX_ticksFor := by
  refine Cn_of mX_ticksFor KlX hfX (by decide +kernel) rfl rfl rfl hX_ticksFor ckX_ticksFor (Or.inl (by decide)) ?_
  intro as X hl hr hX hp G hG
  match as, hl with
  | [a, b], _ => exact vX_ticksFor (hr _ (by simp)) (hr _ (by simp)) hX hp hG
def pX_firstBegin (k ready ticks : Int) (X : St_) : Prop := 0 ≤ k ∧ k < 10 ∧ kOK_ X k ∧ 1 ≤ ticks ∧ ticks ≤ 30
def qX_firstBegin (k ready ticks : Int) (X : St_) (z : Int) (Y : St_) : Prop := Y = X ∧ z = fb_ X k ready ticks
def csX_firstBegin : Cs_ := (3, false, 1, (fun as X => match as with
  | [a, b, c] => pX_firstBegin a b c X
  | _ => False), (fun as X z Y => match as with
  | [a, b, c] => qX_firstBegin a b c X z Y
  | _ => False))
def mX_firstBegin : Mt_ := (LX, [], 1, EX_firstBegin)
theorem sX_firstBegin_0 {Rt : Int → St_ → Prop} {G : Nat → Lo_ → List Vl_ → St_ → Prop} (hG : Clo_ mX_firstBegin Rt G) {X : St_} {k ready ticks : Int} (h : 0 ≤ k ∧ k < 10 ∧ (ready ≤ X 4 k → 0 ≤ k ∧ k < 10 ∧ G 29 [some (.inr 25), some (.inl k), some (.inl ready), some (.inl ticks), some (.inl (X 4 k)), some (.inl 0), some (.inl (X 4 k))] [] X) ∧ (X 4 k < ready → G 29 [some (.inr 25), some (.inl k), some (.inl ready), some (.inl ticks), some (.inl ready), some (.inl 0), some (.inl ready)] [] X)) : G 0 [some (.inr 25), some (.inl k), some (.inl ready), some (.inl ticks)] [] X := run_ hG [(29, 7)] 15 0 _ _ X h
theorem sX_firstBegin_29 {Rt : Int → St_ → Prop} {G : Nat → Lo_ → List Vl_ → St_ → Prop} (hG : Clo_ mX_firstBegin Rt G) {X : St_} {k ready ticks begin free t : Int} (h : 0 ≤ k ∧ k < 10 ∧ (X 5 k ≤ t → Rt (-1) X) ∧ (t < X 5 k → zR (101 * k) ∧ zR ((101 * k) + t) ∧ 0 ≤ (101 * k) + t ∧ (101 * k) + t < 1010 ∧ (X 8 ((101 * k) + t) = 0 → zR (free + 1) ∧ (¬ free + 1 = ticks → zR (t + 1) ∧ G 29 [some (.inr 25), some (.inl k), some (.inl ready), some (.inl ticks), some (.inl begin), some (.inl (free + 1)), some (.inl (t + 1))] [] X) ∧ (free + 1 = ticks → zR (t - ticks) ∧ zR ((t - ticks) + 1) ∧ Rt ((t - ticks) + 1) X)) ∧ (¬ X 8 ((101 * k) + t) = 0 → (¬ 0 = ticks → zR (t + 1) ∧ G 29 [some (.inr 25), some (.inl k), some (.inl ready), some (.inl ticks), some (.inl begin), some (.inl 0), some (.inl (t + 1))] [] X) ∧ (0 = ticks → zR (t - ticks) ∧ zR ((t - ticks) + 1) ∧ Rt ((t - ticks) + 1) X)))) : G 29 [some (.inr 25), some (.inl k), some (.inl ready), some (.inl ticks), some (.inl begin), some (.inl free), some (.inl t)] [] X := run_ hG [(29, 7)] 28 29 _ _ X h
theorem lX_firstBegin {k ready ticks : Int} {X : St_} (hp : pX_firstBegin k ready ticks X) {G : Nat → Lo_ → List Vl_ → St_ → Prop} (hG : Clo_ mX_firstBegin (qX_firstBegin k ready ticks X) G) {begin : Int} (hb1 : ready ≤ begin) (hb2 : X 4 k ≤ begin) (hb3 : begin ≤ ready ∨ begin ≤ X 4 k) :
    ∀ (n : Nat) (t free : Int), X 5 k - t < n → zR t → begin ≤ t → 0 ≤ free → free < ticks → free ≤ t - begin → (∀ u, t - free ≤ u → u < t → X 8 (101 * k + u) = 0) → (t - free = begin ∨ X 8 (101 * k + (t - free - 1)) ≠ 0) → (∀ b, okb_ X k ready ticks b → t < b + ticks) →
      G 29 [some (.inr 25), some (.inl k), some (.inl ready), some (.inl ticks), some (.inl begin), some (.inl free), some (.inl t)] [] X := by
  obtain ⟨h1, h2, ⟨a1, a2, a3, a4, a5, a6, a7, a8, a9, a10, a11⟩, h3, h4⟩ := hp
  intro n
  induction n with
  | zero =>
    intro t free hn hz hbt h0 hlt hle hfr hbd hno
    refine sX_firstBegin_29 hG ⟨by omega, by omega, fun _ => ⟨rfl, ?_⟩, fun h => ?_⟩
    · refine (lst_none fun b hb => ?_).symm
      have := hno b hb
      have := hb.2.2.1
      omega
    · omega
  | succ n ih =>
    intro t free hn hz hbt h0 hlt hle hfr hbd hno
    refine sX_firstBegin_29 hG ⟨by omega, by omega, fun _ => ⟨rfl, ?_⟩, fun h => ?_⟩
    · refine (lst_none fun b hb => ?_).symm
      have := hno b hb
      have := hb.2.2.1
      omega
    · refine ⟨by omega, by omega, by omega, by omega, fun hb0 => ?_, fun hb0 => ?_⟩
      · refine ⟨by omega, fun hne => ⟨by omega, ?_⟩, fun heq => ⟨by omega, by omega, rfl, ?_⟩⟩
        · refine ih (t + 1) (free + 1) (by omega) (by omega) (by omega) (by omega) (by omega) (by omega) ?_ ?_ ?_
          · intro u hu1 hu2
            by_cases e : u = t
            · rw [e]; exact hb0
            · exact hfr u (by omega) (by omega)
          · rw [show t + 1 - (free + 1) = t - free by omega]
            exact hbd
          · intro b hb
            have hlo := hno b hb
            apply Int.not_le.mp
            intro hle2
            obtain ⟨c1, c2, c3, c4⟩ := hb
            rcases hbd with e | e
            · omega
            · exact e (c4 _ (by omega) (by omega))
        · have hk : okb_ X k ready ticks (t - ticks + 1) := by
            refine ⟨by omega, by omega, by omega, fun u hu1 hu2 => ?_⟩
            by_cases e : u = t
            · rw [e]; exact hb0
            · exact hfr u (by omega) (by omega)
          exact (lst_eq hk fun b hb => by have := hno b hb; omega).symm
      · have hno' : ∀ b, okb_ X k ready ticks b → t + 1 < b + ticks := by
          intro b hb
          have hlo := hno b hb
          apply Int.not_le.mp
          intro hle2
          exact hb0 (hb.2.2.2 t (by omega) (by omega))
        refine ⟨fun hne => ⟨by omega, ?_⟩, fun heq => by omega⟩
        refine ih (t + 1) 0 (by omega) (by omega) (by omega) (by omega) (by omega) (by omega) (fun u _ _ => by omega) (Or.inr ?_) hno'
        rw [show t + 1 - 0 - 1 = t by omega]
        exact hb0
theorem vX_firstBegin {k ready ticks : Int} {X : St_} (r1 : zR k) (r2 : zR ready) (r3 : zR ticks) (hX : rgX_ X) (hp : pX_firstBegin k ready ticks X) {G : Nat → Lo_ → List Vl_ → St_ → Prop} (hG : Clo_ mX_firstBegin (qX_firstBegin k ready ticks X) G) : G 0 [some (.inr 25), some (.inl k), some (.inl ready), some (.inl ticks)] [] X := by
  have hp' := hp
  obtain ⟨h1, h2, ⟨a1, a2, a3, a4, a5, a6, a7, a8, a9, a10, a11⟩, h3, h4⟩ := hp'
  refine sX_firstBegin_0 hG ⟨h1, h2, fun h => ⟨h1, h2, ?_⟩, fun h => ?_⟩
  · exact lX_firstBegin hp hG (begin := X 4 k) h (Int.le_refl _) (Or.inr (Int.le_refl _)) (X 5 k - X 4 k + 1).toNat (X 4 k) 0 (by omega) (hX _ _) (by omega) (by omega) (by omega) (by omega) (fun u _ _ => by omega) (Or.inl (by omega)) (fun b hb => by have := hb.2.1; omega)
  · exact lX_firstBegin hp hG (begin := ready) (Int.le_refl _) (by omega) (Or.inl (Int.le_refl _)) (X 5 k - ready + 1).toNat ready 0 (by omega) r2 (by omega) (by omega) (by omega) (by omega) (fun u _ _ => by omega) (Or.inl (by omega)) (fun b hb => by have := hb.1; omega)
theorem ckX_firstBegin : ∀ q ∈ mX_firstBegin.2.1, Ck_ 0 RX0 LX 0 q.1 q.2 := fun _ h => absurd h List.not_mem_nil
theorem okX_firstBegin : Cn_ 0 LX yX0_firstBegin cX0_firstBegin 7 0 csX_firstBegin := by
  refine Cn_of mX_firstBegin KlX hfX (by decide +kernel) rfl rfl rfl hX_firstBegin ckX_firstBegin (Or.inl (by decide)) ?_
  intro as X hl hr hX hp G hG
  match as, hl with
  | [a, b, c], _ => exact vX_firstBegin (hr _ (by simp)) (hr _ (by simp)) (hr _ (by simp)) hX hp hG
def pX_comingIn (k ready size : Int) (X : St_) : Prop := 0 ≤ k ∧ k < 10 ∧ kOK_ X k ∧ 1 ≤ size ∧ size ≤ 30
def qX_comingIn (k ready size : Int) (X : St_) (z : Int) (Y : St_) : Prop := Y = X ∧ z = cin_ X k ready size
def csX_comingIn : Cs_ := (3, false, 1, (fun as X => match as with
  | [a, b, c] => pX_comingIn a b c X
  | _ => False), (fun as X z Y => match as with
  | [a, b, c] => qX_comingIn a b c X z Y
  | _ => False))
def mX_comingIn : Mt_ := (LX, [(79, csX_ticksFor), (83, csX_firstBegin)], 1, EX_comingIn)
theorem sX_comingIn_0 {Rt : Int → St_ → Prop} {G : Nat → Lo_ → List Vl_ → St_ → Prop} (hG : Clo_ mX_comingIn Rt G) {X : St_} {k ready size : Int} (h : 0 ≤ k ∧ k < 10 ∧ (¬ X 1 k = 0 → Rt 1000000 X) ∧ (X 1 k = 0 → (ready < 1000000 → pX_ticksFor k size X ∧ (∀ (z1 : Int) (Y1 : St_), qX_ticksFor k size X z1 Y1 → pX_firstBegin k ready z1 Y1 ∧ (∀ (z2 : Int) (Y2 : St_), qX_firstBegin k ready z1 Y1 z2 Y2 → (0 ≤ z2 → zR (z2 + z1) ∧ 0 ≤ k ∧ k < 10 ∧ zR ((z2 + z1) + (Y2 7 k)) ∧ Rt ((z2 + z1) + (Y2 7 k)) Y2) ∧ (z2 < 0 → Rt 1000000 Y2)))) ∧ (1000000 ≤ ready → Rt 1000000 X))) : G 0 [some (.inr 25), some (.inl k), some (.inl ready), some (.inl size)] [] X := run_ hG [] 30 0 _ _ X h
theorem vX_comingIn {k ready size : Int} {X : St_} (r1 : zR k) (r2 : zR ready) (r3 : zR size) (hX : rgX_ X) (hp : pX_comingIn k ready size X) {G : Nat → Lo_ → List Vl_ → St_ → Prop} (hG : Clo_ mX_comingIn (qX_comingIn k ready size X) G) : G 0 [some (.inr 25), some (.inl k), some (.inl ready), some (.inl size)] [] X := by
  have hk := hp.2.2.1
  obtain ⟨h1, h2, ⟨a1, a2, a3, a4, a5, a6, a7, a8, a9, a10, a11⟩, h3, h4⟩ := hp
  have ht := tk_pos (X := X) (k := k) a8 h3
  have ht2 := tk_le (X := X) (k := k) a8 h3
  refine sX_comingIn_0 hG ⟨h1, h2, fun h => ⟨rfl, ?_⟩, fun h => ⟨fun h6 => ⟨⟨h1, h2, h3, h4, a8, a9⟩, ?_⟩, fun h6 => ⟨rfl, ?_⟩⟩⟩
  · unfold cin_
    rw [if_pos (Or.inl h)]
  · rintro z1 Y1 ⟨rfl, rfl⟩
    refine ⟨⟨h1, h2, hk, ht, by omega⟩, ?_⟩
    rintro z2 Y2 ⟨rfl, rfl⟩
    refine ⟨fun h7 => ?_, fun h7 => ⟨rfl, ?_⟩⟩
    · rcases fb_cases Y2 k ready (tk_ Y2 k size) with ⟨e, -⟩ | ⟨hb, -⟩
      · omega
      · have := hb.2.2.1
        refine ⟨by omega, h1, h2, by omega, rfl, ?_⟩
        unfold cin_
        rw [if_neg (by omega)]
    · unfold cin_
      rw [if_pos (Or.inr (Or.inr h7))]
  · unfold cin_
    rw [if_pos (Or.inr (Or.inl h6))]
theorem ckX_comingIn : ∀ q ∈ mX_comingIn.2.1, Ck_ 0 RX0 LX 1 q.1 q.2 := List.forall_mem_cons.mpr ⟨⟨yX0_ticksFor, cX0_ticksFor, 3, 0, okX_ticksFor, by decide, by decide, by decide +kernel, rfl, ⟨by decide, by decide⟩, lw_V q146 q148 qs3 q33 q149⟩, List.forall_mem_cons.mpr ⟨⟨yX0_firstBegin, cX0_firstBegin, 7, 0, okX_firstBegin, by decide, by decide, by decide +kernel, rfl, ⟨by decide, by decide⟩, lw_V q167 q169 qs8 q33 q170⟩, fun _ h => absurd h List.not_mem_nil⟩⟩
theorem okX_comingIn : Cn_ 0 LX yX0_comingIn cX0_comingIn 6 1 csX_comingIn := by
  refine Cn_of mX_comingIn KlX hfX (by decide +kernel) rfl rfl rfl hX_comingIn ckX_comingIn (Or.inl (by decide)) ?_
  intro as X hl hr hX hp G hG
  match as, hl with
  | [a, b, c], _ => exact vX_comingIn (hr _ (by simp)) (hr _ (by simp)) (hr _ (by simp)) hX hp hG
def pX_areEnds (_ : Int) (_ : St_) : Prop := True
def qX_areEnds (e : Int) (X : St_) (z : Int) (Y : St_) : Prop := Y = X ∧ (z = 0 ∨ z = 1) ∧ (z = 1 ↔ 0 ≤ e ∧ e < 36 ∧ e / 6 ≠ e % 6)
def csX_areEnds : Cs_ := (1, true, 2, (fun as X => match as with
  | [a] => pX_areEnds a X
  | _ => False), (fun as X z Y => match as with
  | [a] => qX_areEnds a X z Y
  | _ => False))
def mX_areEnds : Mt_ := (LX, [], 2, EX_areEnds)
theorem sX_areEnds_0 {Rt : Int → St_ → Prop} {G : Nat → Lo_ → List Vl_ → St_ → Prop} (hG : Clo_ mX_areEnds Rt G) {X : St_} {e : Int} (h : (e < 0 → ((0 : Int) = 0 ∨ (0 : Int) = 1) ∧ Rt 0 X) ∧ (0 ≤ e → (36 ≤ e → ((0 : Int) = 0 ∨ (0 : Int) = 1) ∧ Rt 0 X) ∧ (e < 36 → 0 ≤ e ∧ 0 < (6 : Int) ∧ 0 ≤ e ∧ 0 < (6 : Int) ∧ (e / 6 = e % 6 → ((0 : Int) = 0 ∨ (0 : Int) = 1) ∧ Rt 0 X) ∧ (¬ e / 6 = e % 6 → ((1 : Int) = 0 ∨ (1 : Int) = 1) ∧ Rt 1 X)))) : G 0 [some (.inl e)] [] X := run_ hG [] 15 0 _ _ X h
theorem vX_areEnds {e : Int} {X : St_} (r1 : zR e) (hX : rgX_ X) (hp : pX_areEnds e X) {G : Nat → Lo_ → List Vl_ → St_ → Prop} (hG : Clo_ mX_areEnds (qX_areEnds e X) G) : G 0 [some (.inl e)] [] X := by
  refine sX_areEnds_0 hG ?_
  simp only [qX_areEnds, true_and]
  refine ⟨fun h1 => ?_, fun h1 => ?_⟩ <;> grind
theorem ckX_areEnds : ∀ q ∈ mX_areEnds.2.1, Ck_ 0 RX0 LX 0 q.1 q.2 := fun _ h => absurd h List.not_mem_nil
theorem okX_areEnds : Cn_ 0 LX yX0_areEnds cX0_areEnds 1 0 csX_areEnds := by
  refine Cn_of mX_areEnds KlX hfX (by decide +kernel) rfl rfl rfl hX_areEnds ckX_areEnds (Or.inr ⟨rfl, by decide⟩) ?_
  intro as X hl hr hX hp G hG
  match as, hl with
  | [a], _ => exact vX_areEnds (hr _ (by simp)) hX hp hG
def pX_isSpan (_ : Int) (_ : St_) : Prop := True
def qX_isSpan (e : Int) (X : St_) (z : Int) (Y : St_) : Prop := Y = X ∧ (z = 0 ∨ z = 1) ∧ (z = 1 ↔ 0 ≤ e ∧ e < 10201 ∧ e / 101 < e % 101)
def csX_isSpan : Cs_ := (1, true, 2, (fun as X => match as with
  | [a] => pX_isSpan a X
  | _ => False), (fun as X z Y => match as with
  | [a] => qX_isSpan a X z Y
  | _ => False))
def mX_isSpan : Mt_ := (LX, [], 2, EX_isSpan)
theorem sX_isSpan_0 {Rt : Int → St_ → Prop} {G : Nat → Lo_ → List Vl_ → St_ → Prop} (hG : Clo_ mX_isSpan Rt G) {X : St_} {e : Int} (h : (e < 0 → ((0 : Int) = 0 ∨ (0 : Int) = 1) ∧ Rt 0 X) ∧ (0 ≤ e → 0 ≤ e ∧ 0 < (101 : Int) ∧ 0 ≤ e ∧ 0 < (101 : Int) ∧ (e % 101 ≤ e / 101 → ((0 : Int) = 0 ∨ (0 : Int) = 1) ∧ Rt 0 X) ∧ (e / 101 < e % 101 → 0 ≤ e ∧ 0 < (101 : Int) ∧ (101 ≤ e / 101 → ((0 : Int) = 0 ∨ (0 : Int) = 1) ∧ Rt 0 X) ∧ (e / 101 < 101 → ((1 : Int) = 0 ∨ (1 : Int) = 1) ∧ Rt 1 X)))) : G 0 [some (.inl e)] [] X := run_ hG [] 17 0 _ _ X h
theorem vX_isSpan {e : Int} {X : St_} (r1 : zR e) (hX : rgX_ X) (hp : pX_isSpan e X) {G : Nat → Lo_ → List Vl_ → St_ → Prop} (hG : Clo_ mX_isSpan (qX_isSpan e X) G) : G 0 [some (.inl e)] [] X := by
  refine sX_isSpan_0 hG ?_
  simp only [qX_isSpan, true_and]
  refine ⟨fun h1 => ?_, fun h1 => ?_⟩ <;> grind
theorem ckX_isSpan : ∀ q ∈ mX_isSpan.2.1, Ck_ 0 RX0 LX 0 q.1 q.2 := fun _ h => absurd h List.not_mem_nil
theorem okX_isSpan : Cn_ 0 LX yX0_isSpan cX0_isSpan 1 0 csX_isSpan := by
  refine Cn_of mX_isSpan KlX hfX (by decide +kernel) rfl rfl rfl hX_isSpan ckX_isSpan (Or.inr ⟨rfl, by decide⟩) ?_
  intro as X hl hr hX hp G hG
  match as, hl with
  | [a], _ => exact vX_isSpan (hr _ (by simp)) hX hp hG
def pX_areTerms (_ : Int) (_ : St_) : Prop := True
def qX_areTerms (e : Int) (X : St_) (z : Int) (Y : St_) : Prop := Y = X ∧ (z = 0 ∨ z = 1) ∧ (z = 1 ↔ 10 ≤ e ∧ e < 100)
def csX_areTerms : Cs_ := (1, true, 2, (fun as X => match as with
  | [a] => pX_areTerms a X
  | _ => False), (fun as X z Y => match as with
  | [a] => qX_areTerms a X z Y
  | _ => False))
def mX_areTerms : Mt_ := (LX, [], 2, EX_areTerms)
theorem sX_areTerms_0 {Rt : Int → St_ → Prop} {G : Nat → Lo_ → List Vl_ → St_ → Prop} (hG : Clo_ mX_areTerms Rt G) {X : St_} {e : Int} (h : (e < 10 → ((0 : Int) = 0 ∨ (0 : Int) = 1) ∧ Rt 0 X) ∧ (10 ≤ e → (100 ≤ e → ((0 : Int) = 0 ∨ (0 : Int) = 1) ∧ Rt 0 X) ∧ (e < 100 → ((1 : Int) = 0 ∨ (1 : Int) = 1) ∧ Rt 1 X))) : G 0 [some (.inl e)] [] X := run_ hG [] 9 0 _ _ X h
theorem vX_areTerms {e : Int} {X : St_} (r1 : zR e) (hX : rgX_ X) (hp : pX_areTerms e X) {G : Nat → Lo_ → List Vl_ → St_ → Prop} (hG : Clo_ mX_areTerms (qX_areTerms e X) G) : G 0 [some (.inl e)] [] X := by
  refine sX_areTerms_0 hG ?_
  simp only [qX_areTerms, true_and]
  refine ⟨fun h1 => ?_, fun h1 => ?_⟩ <;> grind
theorem ckX_areTerms : ∀ q ∈ mX_areTerms.2.1, Ck_ 0 RX0 LX 0 q.1 q.2 := fun _ h => absurd h List.not_mem_nil
theorem okX_areTerms : Cn_ 0 LX yX0_areTerms cX0_areTerms 1 0 csX_areTerms := by
  refine Cn_of mX_areTerms KlX hfX (by decide +kernel) rfl rfl rfl hX_areTerms ckX_areTerms (Or.inr ⟨rfl, by decide⟩) ?_
  intro as X hl hr hX hp G hG
  match as, hl with
  | [a], _ => exact vX_areTerms (hr _ (by simp)) hX hp hG
def pX_isSize (_ : Int) (_ : St_) : Prop := True
def qX_isSize (e : Int) (X : St_) (z : Int) (Y : St_) : Prop := Y = X ∧ (z = 0 ∨ z = 1) ∧ (z = 1 ↔ 1 ≤ e ∧ e ≤ 30)
def csX_isSize : Cs_ := (1, true, 2, (fun as X => match as with
  | [a] => pX_isSize a X
  | _ => False), (fun as X z Y => match as with
  | [a] => qX_isSize a X z Y
  | _ => False))
def mX_isSize : Mt_ := (LX, [], 2, EX_isSize)
theorem sX_isSize_0 {Rt : Int → St_ → Prop} {G : Nat → Lo_ → List Vl_ → St_ → Prop} (hG : Clo_ mX_isSize Rt G) {X : St_} {e : Int} (h : (e < 1 → ((0 : Int) = 0 ∨ (0 : Int) = 1) ∧ Rt 0 X) ∧ (1 ≤ e → (30 < e → ((0 : Int) = 0 ∨ (0 : Int) = 1) ∧ Rt 0 X) ∧ (e ≤ 30 → ((1 : Int) = 0 ∨ (1 : Int) = 1) ∧ Rt 1 X))) : G 0 [some (.inl e)] [] X := run_ hG [] 9 0 _ _ X h
theorem vX_isSize {e : Int} {X : St_} (r1 : zR e) (hX : rgX_ X) (hp : pX_isSize e X) {G : Nat → Lo_ → List Vl_ → St_ → Prop} (hG : Clo_ mX_isSize (qX_isSize e X) G) : G 0 [some (.inl e)] [] X := by
  refine sX_isSize_0 hG ?_
  simp only [qX_isSize, true_and]
  refine ⟨fun h1 => ?_, fun h1 => ?_⟩ <;> grind
theorem ckX_isSize : ∀ q ∈ mX_isSize.2.1, Ck_ 0 RX0 LX 0 q.1 q.2 := fun _ h => absurd h List.not_mem_nil
theorem okX_isSize : Cn_ 0 LX yX0_isSize cX0_isSize 1 0 csX_isSize := by
  refine Cn_of mX_isSize KlX hfX (by decide +kernel) rfl rfl rfl hX_isSize ckX_isSize (Or.inr ⟨rfl, by decide⟩) ?_
  intro as X hl hr hX hp G hG
  match as, hl with
  | [a], _ => exact vX_isSize (hr _ (by simp)) hX hp hG
def pX_isContact (_ : Int) (_ : St_) : Prop := True
def qX_isContact (k : Int) (X : St_) (z : Int) (Y : St_) : Prop := Y = X ∧ (z = 0 ∨ z = 1) ∧ (z = 1 ↔ 0 ≤ k ∧ k < X 0 0)
def csX_isContact : Cs_ := (1, false, 2, (fun as X => match as with
  | [a] => pX_isContact a X
  | _ => False), (fun as X z Y => match as with
  | [a] => qX_isContact a X z Y
  | _ => False))
def mX_isContact : Mt_ := (LX, [], 2, EX_isContact)
theorem sX_isContact_0 {Rt : Int → St_ → Prop} {G : Nat → Lo_ → List Vl_ → St_ → Prop} (hG : Clo_ mX_isContact Rt G) {X : St_} {k : Int} (h : (k < 0 → ((0 : Int) = 0 ∨ (0 : Int) = 1) ∧ Rt 0 X) ∧ (0 ≤ k → (X 0 0 ≤ k → ((0 : Int) = 0 ∨ (0 : Int) = 1) ∧ Rt 0 X) ∧ (k < X 0 0 → ((1 : Int) = 0 ∨ (1 : Int) = 1) ∧ Rt 1 X))) : G 0 [some (.inr 25), some (.inl k)] [] X := run_ hG [] 9 0 _ _ X h
theorem vX_isContact {k : Int} {X : St_} (r1 : zR k) (hX : rgX_ X) (hp : pX_isContact k X) {G : Nat → Lo_ → List Vl_ → St_ → Prop} (hG : Clo_ mX_isContact (qX_isContact k X) G) : G 0 [some (.inr 25), some (.inl k)] [] X := by
  refine sX_isContact_0 hG ?_
  simp only [qX_isContact, true_and]
  refine ⟨fun h1 => ?_, fun h1 => ?_⟩ <;> grind
theorem ckX_isContact : ∀ q ∈ mX_isContact.2.1, Ck_ 0 RX0 LX 0 q.1 q.2 := fun _ h => absurd h List.not_mem_nil
theorem okX_isContact : Cn_ 0 LX yX0_isContact cX0_isContact 2 0 csX_isContact := by
  refine Cn_of mX_isContact KlX hfX (by decide +kernel) rfl rfl rfl hX_isContact ckX_isContact (Or.inl (by decide)) ?_
  intro as X hl hr hX hp G hG
  match as, hl with
  | [a], _ => exact vX_isContact (hr _ (by simp)) hX hp hG
def pX_isBundle (_ : Int) (_ : St_) : Prop := True
def qX_isBundle (b : Int) (X : St_) (z : Int) (Y : St_) : Prop := Y = X ∧ (z = 0 ∨ z = 1) ∧ (z = 1 ↔ 0 ≤ b ∧ b < X 9 0)
def csX_isBundle : Cs_ := (1, false, 2, (fun as X => match as with
  | [a] => pX_isBundle a X
  | _ => False), (fun as X z Y => match as with
  | [a] => qX_isBundle a X z Y
  | _ => False))
def mX_isBundle : Mt_ := (LX, [], 2, EX_isBundle)
theorem sX_isBundle_0 {Rt : Int → St_ → Prop} {G : Nat → Lo_ → List Vl_ → St_ → Prop} (hG : Clo_ mX_isBundle Rt G) {X : St_} {b : Int} (h : (b < 0 → ((0 : Int) = 0 ∨ (0 : Int) = 1) ∧ Rt 0 X) ∧ (0 ≤ b → (X 9 0 ≤ b → ((0 : Int) = 0 ∨ (0 : Int) = 1) ∧ Rt 0 X) ∧ (b < X 9 0 → ((1 : Int) = 0 ∨ (1 : Int) = 1) ∧ Rt 1 X))) : G 0 [some (.inr 25), some (.inl b)] [] X := run_ hG [] 9 0 _ _ X h
theorem vX_isBundle {b : Int} {X : St_} (r1 : zR b) (hX : rgX_ X) (hp : pX_isBundle b X) {G : Nat → Lo_ → List Vl_ → St_ → Prop} (hG : Clo_ mX_isBundle (qX_isBundle b X) G) : G 0 [some (.inr 25), some (.inl b)] [] X := by
  refine sX_isBundle_0 hG ?_
  simp only [qX_isBundle, true_and]
  refine ⟨fun h1 => ?_, fun h1 => ?_⟩ <;> grind
theorem ckX_isBundle : ∀ q ∈ mX_isBundle.2.1, Ck_ 0 RX0 LX 0 q.1 q.2 := fun _ h => absurd h List.not_mem_nil
theorem okX_isBundle : Cn_ 0 LX yX0_isBundle cX0_isBundle 2 0 csX_isBundle := by
  refine Cn_of mX_isBundle KlX hfX (by decide +kernel) rfl rfl rfl hX_isBundle ckX_isBundle (Or.inl (by decide)) ?_
  intro as X hl hr hX hp G hG
  match as, hl with
  | [a], _ => exact vX_isBundle (hr _ (by simp)) hX hp hG
end
section
/-! WALKS over the network, pure: earliest coming in by rounds (ea_), walks (wk_), the best route (bs_), the greedy one (gd_) -/
def fr_ (S : List Nat) (X Y : St_) : Prop := ∀ f, f ∉ S → Y f = X f
theorem fr_.refl (S : List Nat) (X : St_) : fr_ S X X := fun _ _ => rfl
theorem fr_.trans {S : List Nat} {X Y Z : St_} (h : fr_ S X Y) (h2 : fr_ S Y Z) : fr_ S X Z := fun f hf => (h2 f hf).trans (h f hf)
theorem fr_.up {S : List Nat} {X Y : St_} (h : fr_ S X Y) {f : Nat} (hf : f ∈ S) (i v : Int) : fr_ S X (up_ Y f i v) := by
  intro g hg
  have : g ≠ f := fun e => hg (e ▸ hf)
  rw [← h g hg]
  funext j
  exact up_ne _ _ _ _ this
theorem fr_.mono {S T : List Nat} {X Y : St_} (h : fr_ S X Y) (hs : ∀ f ∈ S, f ∈ T) : fr_ T X Y := fun f hf => h f (fun q => hf (hs f q))
theorem fr_.nt {S : List Nat} {X Y : St_} (h : fr_ S X Y) (hs : ∀ f ∈ S, 8 < f) : nt_ Y = nt_ X := by
  funext f i
  unfold nt_
  by_cases hf : f ≤ 8
  · rw [if_pos hf, if_pos hf, h f (fun q => by have := hs f q; omega)]
  · rw [if_neg hf, if_neg hf]
/-- one round: the first j contacts relaxed -/
noncomputable def rl_ (X : St_) (size : Int) (e : Int → Int) : Nat → Int → Int
  | 0, v => e v
  | j + 1, v => if X 3 j = v ∧ cin_ X j (e (X 2 j)) size < rl_ X size e j v then cin_ X j (e (X 2 j)) size else rl_ X size e j v
noncomputable def ea_ (X : St_) (size node ready : Int) : Nat → Int → Int
  | 0, v => if v = node then ready else 1000000
  | m + 1, v => rl_ X size (ea_ X size node ready m) (X 0 0).toNat v
def wk_ (X : St_) (size : Int) : Int → Int → List Int → Int → Int → Prop
  | v, t, [], v', t' => v' = v ∧ t' = t
  | v, t, k :: ks, v', t' => 0 ≤ k ∧ k < X 0 0 ∧ X 2 k = v ∧ cin_ X k t size < 1000000 ∧ wk_ X size (X 3 k) (cin_ X k t size) ks v' t'
theorem rl_nt {X Y : St_} (h : nt_ X = nt_ Y) (size : Int) (e : Int → Int) : ∀ j v, rl_ X size e j v = rl_ Y size e j v := by
  intro j
  induction j with
  | zero => intro v; rfl
  | succ j ih =>
    intro v
    unfold rl_
    rw [ih v, nt_get h (by decide : 3 ≤ 8), nt_get h (by decide : 2 ≤ 8), cin_nt h]
theorem ea_nt {X Y : St_} (h : nt_ X = nt_ Y) (size node ready : Int) : ∀ m v, ea_ X size node ready m v = ea_ Y size node ready m v := by
  intro m
  induction m with
  | zero => intro v; rfl
  | succ m ih =>
    intro v
    unfold ea_
    rw [nt_get h (by decide : 0 ≤ 8), show ea_ X size node ready m = ea_ Y size node ready m from funext ih]
    exact rl_nt h _ _ _ _
theorem wk_nt {X Y : St_} (h : nt_ X = nt_ Y) (size : Int) : ∀ (L : List Int) (v t v' t' : Int), wk_ X size v t L v' t' ↔ wk_ Y size v t L v' t' := by
  intro L
  induction L with
  | nil => intro v t v' t'; exact Iff.rfl
  | cons k ks ih =>
    intro v t v' t'
    unfold wk_
    rw [nt_get h (by decide : 0 ≤ 8), nt_get h (by decide : 2 ≤ 8), nt_get h (by decide : 3 ≤ 8), cin_nt h, ih]
theorem wk_app {X : St_} {size : Int} : ∀ (L M : List Int) (v t v' t' : Int), wk_ X size v t (L ++ M) v' t' ↔ ∃ v1 t1, wk_ X size v t L v1 t1 ∧ wk_ X size v1 t1 M v' t' := by
  intro L
  induction L with
  | nil =>
    intro M v t v' t'
    constructor
    · intro h
      exact ⟨v, t, ⟨rfl, rfl⟩, h⟩
    · rintro ⟨v1, t1, ⟨rfl, rfl⟩, h⟩
      exact h
  | cons k ks ih =>
    intro M v t v' t'
    rw [List.cons_append]
    constructor
    · rintro ⟨a, b, c, d, h⟩
      obtain ⟨v1, t1, h1, h2⟩ := (ih _ _ _ _ _).mp h
      exact ⟨v1, t1, ⟨a, b, c, d, h1⟩, h2⟩
    · rintro ⟨v1, t1, ⟨a, b, c, d, h1⟩, h2⟩
      exact ⟨a, b, c, d, (ih _ _ _ _ _).mpr ⟨v1, t1, h1, h2⟩⟩
/-- a walk comes to one place at one time -/
theorem wk_det {X : St_} {size : Int} : ∀ (L : List Int) {v t v1 t1 v2 t2 : Int}, wk_ X size v t L v1 t1 → wk_ X size v t L v2 t2 → v1 = v2 ∧ t1 = t2 := by
  intro L
  induction L with
  | nil =>
    rintro v t v1 t1 v2 t2 ⟨rfl, rfl⟩ ⟨rfl, rfl⟩
    exact ⟨rfl, rfl⟩
  | cons k ks ih =>
    rintro v t v1 t1 v2 t2 ⟨-, -, -, -, h1⟩ ⟨-, -, -, -, h2⟩
    exact ih h1 h2
theorem wk_mem {X : St_} {size : Int} : ∀ (L : List Int) {v t v1 t1 : Int}, wk_ X size v t L v1 t1 → ∀ k ∈ L, 0 ≤ k ∧ k < X 0 0 := by
  intro L
  induction L with
  | nil => intro _ _ _ _ _ k hk; cases hk
  | cons q ks ih =>
    rintro v t v1 t1 ⟨a, b, -, -, h1⟩ k hk
    rcases List.mem_cons.mp hk with e | e
    · rw [e]; exact ⟨a, b⟩
    · exact ih h1 k e
/-- ready earlier: the same walk, not later -/
theorem wk_mono {X : St_} {size : Int} (hX : nOK_ X) (hs : 1 ≤ size) : ∀ (L : List Int) {v t t0 v' a : Int}, t0 ≤ t → wk_ X size v t L v' a → ∃ a0, a0 ≤ a ∧ wk_ X size v t0 L v' a0 := by
  intro L
  induction L with
  | nil =>
    rintro v t t0 v' a h ⟨rfl, rfl⟩
    exact ⟨t0, h, rfl, rfl⟩
  | cons k ks ih =>
    rintro v t t0 v' a h ⟨h1, h2, h3, h4, h5⟩
    have hm := cin_mono (hX.2.2 k h1 h2) hs h
    obtain ⟨a0, ha, hw⟩ := ih hm h5
    exact ⟨a0, ha, h1, h2, h3, by omega, hw⟩
/-- a walk comes in later than it is ready, by a tick a contact, and in time -/
theorem wk_len {X : St_} {size : Int} (hX : nOK_ X) (hs : 1 ≤ size) : ∀ (L : List Int) {v t v' a : Int}, wk_ X size v t L v' a → t + L.length ≤ a ∧ (L ≠ [] → a ≤ 109) := by
  intro L
  induction L with
  | nil =>
    rintro v t v' a ⟨rfl, rfl⟩
    exact ⟨by simp, fun h => absurd rfl h⟩
  | cons k ks ih =>
    rintro v t v' a ⟨h1, h2, h3, h4, h5⟩
    rcases cin_bound (t := t) (hX.2.2 k h1 h2) hs with hb | ⟨-, -, -, -, b5, b6, -⟩
    · omega
    · obtain ⟨i1, i2⟩ := ih h5
      rw [List.length_cons]
      refine ⟨by omega, fun _ => ?_⟩
      cases ks with
      | nil =>
        obtain ⟨-, e⟩ := h5
        omega
      | cons q qs => exact i2 (by simp)
theorem rl_le {X : St_} {size : Int} {e : Int → Int} : ∀ (j : Nat) (v : Int), rl_ X size e j v ≤ e v := by
  intro j
  induction j with
  | zero => intro v; exact Int.le_refl _
  | succ j ih =>
    intro v
    unfold rl_
    have := ih v
    split
    · rename_i h
      omega
    · exact this
theorem rl_con {X : St_} {size : Int} {e : Int → Int} : ∀ (n j : Nat), j < n → rl_ X size e n (X 3 j) ≤ cin_ X j (e (X 2 j)) size := by
  intro n
  induction n with
  | zero => intro j h; omega
  | succ n ih =>
    intro j h
    unfold rl_
    by_cases e1 : j = n
    · subst e1
      split
      · exact Int.le_refl _
      · rename_i hn
        apply Int.not_lt.mp
        intro hlt
        exact hn ⟨rfl, hlt⟩
    · have := ih j (by omega)
      split
      · rename_i hn
        omega
      · exact this
theorem rl_att {X : St_} {size : Int} {e : Int → Int} : ∀ (n : Nat) (v : Int), rl_ X size e n v = e v ∨ ∃ j : Nat, j < n ∧ X 3 j = v ∧ rl_ X size e n v = cin_ X j (e (X 2 j)) size := by
  intro n
  induction n with
  | zero => intro v; exact Or.inl rfl
  | succ n ih =>
    intro v
    unfold rl_
    split
    · rename_i h
      exact Or.inr ⟨n, by omega, h.1, rfl⟩
    · rcases ih v with h | ⟨j, h1, h2, h3⟩
      · exact Or.inl h
      · exact Or.inr ⟨j, by omega, h2, h3⟩
theorem ea_le {X : St_} {size node ready : Int} (hr : ready ≤ 1000000) : ∀ (m : Nat) (v : Int), ea_ X size node ready m v ≤ 1000000 := by
  intro m
  induction m with
  | zero => intro v; unfold ea_; split <;> omega
  | succ m ih =>
    intro v
    have := rl_le (X := X) (size := size) (e := ea_ X size node ready m) (X 0 0).toNat v
    have := ih v
    show rl_ _ _ _ _ _ ≤ _
    omega
theorem ea_walk {X : St_} {size node ready : Int} (hX : nOK_ X) : ∀ (m : Nat) (v : Int), ea_ X size node ready m v < 1000000 → ∃ L : List Int, L.length ≤ m ∧ wk_ X size node ready L v (ea_ X size node ready m v) := by
  intro m
  induction m with
  | zero =>
    intro v h
    unfold ea_ at h ⊢
    by_cases e : v = node
    · rw [if_pos e] at h ⊢
      exact ⟨[], Nat.le_refl _, e, rfl⟩
    · rw [if_neg e] at h
      omega
  | succ m ih =>
    intro v h
    have h' : rl_ X size (ea_ X size node ready m) (X 0 0).toNat v < 1000000 := h
    show ∃ L : List Int, L.length ≤ m + 1 ∧ wk_ X size node ready L v (rl_ X size (ea_ X size node ready m) (X 0 0).toNat v)
    rcases rl_att (X := X) (size := size) (e := ea_ X size node ready m) (X 0 0).toNat v with e | ⟨j, h1, h2, h3⟩
    · rw [e] at h' ⊢
      obtain ⟨L, hl, hw⟩ := ih v h'
      exact ⟨L, by omega, hw⟩
    · rw [h3] at h' ⊢
      have hlt : ea_ X size node ready m (X 2 j) < 1000000 := by
        apply Int.not_le.mp
        intro q
        unfold cin_ at h'
        rw [if_pos (Or.inr (Or.inl q))] at h'
        omega
      obtain ⟨L, hl, hw⟩ := ih _ hlt
      refine ⟨L ++ [(j : Int)], by simp; omega, (wk_app _ _ _ _ _ _).mpr ⟨_, _, hw, ?_⟩⟩
      exact ⟨by omega, by have := hX.1; omega, rfl, h', h2.symm, rfl⟩
theorem ea_min {X : St_} {size node ready : Int} (hX : nOK_ X) (hs : 1 ≤ size) : ∀ (m : Nat) (L : List Int) (v a : Int), L.length ≤ m → wk_ X size node ready L v a → ea_ X size node ready m v ≤ a := by
  intro m
  induction m with
  | zero =>
    intro L v a hl hw
    cases L with
    | nil =>
      obtain ⟨e1, e2⟩ := hw
      unfold ea_
      rw [if_pos e1]
      omega
    | cons k ks => simp at hl
  | succ m ih =>
    intro L v a hl hw
    show rl_ X size (ea_ X size node ready m) (X 0 0).toNat v ≤ a
    rcases List.eq_nil_or_concat L with e | ⟨L0, k, e⟩
    · have h1 := ih [] v a (by simp) (by rw [e] at hw; exact hw)
      have h2 := rl_le (X := X) (size := size) (e := ea_ X size node ready m) (X 0 0).toNat v
      omega
    · have e : L = L0 ++ [k] := by rw [e, List.concat_eq_append]
      rw [e] at hw hl
      obtain ⟨v1, t1, h1, h2, h3, h4, h5, h6, h7⟩ := (wk_app _ _ _ _ _ _).mp hw
      have i1 := ih L0 v1 t1 (by simp at hl; omega) h1
      have hm := cin_mono (hX.2.2 k h2 h3) hs i1
      have hc := rl_con (X := X) (size := size) (e := ea_ X size node ready m) (X 0 0).toNat k.toNat (by omega)
      rw [show ((k.toNat : Nat) : Int) = k by omega] at hc
      rw [h6, h7]
      rw [h4] at hc
      omega
/-- lists of contacts by their numbers -/
def lx_ : List Int → List Int → Prop
  | [], _ => True
  | _ :: _, [] => False
  | a :: as, b :: bs => a < b ∨ (a = b ∧ lx_ as bs)
theorem lx_anti : ∀ (A B : List Int), A.length = B.length → lx_ A B → lx_ B A → A = B := by
  intro A
  induction A with
  | nil =>
    intro B h _ _
    cases B with
    | nil => rfl
    | cons b bs => simp at h
  | cons a as ih =>
    intro B h h1 h2
    cases B with
    | nil => simp at h
    | cons b bs =>
      simp only [List.length_cons] at h
      rcases h1 with q | ⟨q1, q2⟩
      · rcases h2 with r | ⟨r1, r2⟩
        · omega
        · omega
      · rcases h2 with r | ⟨r1, r2⟩
        · omega
        · rw [q1, ih bs (by omega) q2 r2]
/-- the best route: earliest, then shortest, then least -/
def bs_ (X : St_) (size v t tgt : Int) (L : List Int) (a : Int) : Prop :=
  wk_ X size v t L tgt a ∧ L ≠ [] ∧ L.length ≤ 5 ∧ ∀ (R : List Int) (c : Int), R ≠ [] → R.length ≤ 5 → wk_ X size v t R tgt c → a < c ∨ (a = c ∧ (L.length < R.length ∨ (L.length = R.length ∧ lx_ L R)))
theorem bs_uniq {X : St_} {size v t tgt : Int} {L M : List Int} {a b : Int} (h1 : bs_ X size v t tgt L a) (h2 : bs_ X size v t tgt M b) : L = M ∧ a = b := by
  have q1 := h1.2.2.2 M b h2.2.1 h2.2.2.1 h2.1
  have q2 := h2.2.2.2 L a h1.2.1 h1.2.2.1 h1.1
  rcases q1 with q | ⟨e, q⟩
  · rcases q2 with r | ⟨r, -⟩ <;> omega
  · rcases q2 with r | ⟨-, r⟩
    · omega
    · rcases q with q | ⟨q3, q4⟩
      · rcases r with r | ⟨r, -⟩ <;> omega
      · rcases r with r | ⟨-, r⟩
        · omega
        · exact ⟨lx_anti _ _ q3 q4 r, e⟩
theorem bs_nt {X Y : St_} (h : nt_ X = nt_ Y) {size v t tgt : Int} {L : List Int} {a : Int} (hb : bs_ X size v t tgt L a) : bs_ Y size v t tgt L a :=
  ⟨(wk_nt h _ _ _ _ _ _).mp hb.1, hb.2.1, hb.2.2.1, fun R c h1 h2 h3 => hb.2.2.2 R c h1 h2 ((wk_nt h _ _ _ _ _ _).mpr h3)⟩
/-- the begins of a route -/
noncomputable def bg_ (X : St_) (size : Int) : Int → List Int → List Int
  | _, [] => []
  | t, k :: ks => fb_ X k t (tk_ X k size) :: bg_ X size (cin_ X k t size) ks
theorem bg_nt {X Y : St_} (h : nt_ X = nt_ Y) (size : Int) : ∀ (L : List Int) (t : Int), bg_ X size t L = bg_ Y size t L := by
  intro L
  induction L with
  | nil => intro t; rfl
  | cons k ks ih =>
    intro t
    unfold bg_
    rw [fb_nt h, tk_nt h, cin_nt h, ih]
theorem bg_length (X : St_) (size : Int) : ∀ (L : List Int) (t : Int), (bg_ X size t L).length = L.length := by
  intro L
  induction L with
  | nil => intro t; rfl
  | cons k ks ih => intro t; unfold bg_; rw [List.length_cons, List.length_cons, ih]
/-- a contact by which the target can still be come in at as early -/
def ld_ (X : St_) (size tgt best : Int) (left : Nat) (at_ time k : Int) : Prop := X 2 k = at_ ∧ cin_ X k time size < 1000000 ∧ ea_ X size (X 3 k) (cin_ X k time size) left tgt ≤ best
def gd_ (X : St_) (size tgt best : Int) : Nat → Int → Int → List Int → Prop
  | 0, _, _, L => L = []
  | n + 1, v, t, L => match L with
    | [] => False
    | k :: ks => 0 ≤ k ∧ k < X 0 0 ∧ ld_ X size tgt best n v t k ∧ (∀ j, 0 ≤ j → j < k → ¬ ld_ X size tgt best n v t j) ∧ gd_ X size tgt best n (X 3 k) (cin_ X k t size) ks
theorem gd_ex {X : St_} {size tgt best : Int} (hX : nOK_ X) (hs : 1 ≤ size) (hb : best < 1000000) : ∀ (n : Nat) (v t : Int), (∃ R a, wk_ X size v t R tgt a ∧ R.length ≤ n ∧ a ≤ best) → (∀ R a, wk_ X size v t R tgt a → R.length < n → best < a) →
    ∃ L, gd_ X size tgt best n v t L ∧ L.length = n ∧ (∃ a, wk_ X size v t L tgt a ∧ a ≤ best) ∧ ∀ R a, wk_ X size v t R tgt a → R.length = n → a ≤ best → lx_ L R := by
  intro n
  induction n with
  | zero =>
    rintro v t ⟨R, a, hR, hl, ha⟩ _
    cases R with
    | nil => exact ⟨[], rfl, rfl, ⟨a, hR, ha⟩, fun _ _ _ _ _ => trivial⟩
    | cons k ks => simp at hl
  | succ n ih =>
    rintro v t ⟨R, a, hR, hl, ha⟩ hno
    have hld : ∀ (k : Int) (ks : List Int) (c : Int), wk_ X size v t (k :: ks) tgt c → ks.length ≤ n → c ≤ best → 0 ≤ k ∧ ld_ X size tgt best n v t k := by
      intro k ks c hw hk hc
      obtain ⟨w1, w2, w3, w4, w5⟩ := hw
      exact ⟨w1, w3, w4, Int.le_trans (ea_min hX hs n ks _ _ hk w5) hc⟩
    have hRn : ∃ k, 0 ≤ k ∧ k < X 0 0 ∧ ld_ X size tgt best n v t k := by
      cases R with
      | nil => exact absurd (hno [] a hR (by simp)) (by omega)
      | cons k ks =>
        obtain ⟨g1, g2⟩ := hld k ks a hR (by simpa using hl) ha
        exact ⟨k, g1, hR.2.1, g2⟩
    obtain ⟨k0, g1, g2, g3⟩ := hRn
    obtain ⟨k, ⟨k1, k2, k3⟩, kmin⟩ := lst_min (P := fun k => 0 ≤ k ∧ k < X 0 0 ∧ ld_ X size tgt best n v t k) 0 (fun b h => h.1) k0.toNat k0 ⟨g1, g2, g3⟩ (by omega)
    have hk3 := k3
    obtain ⟨m1, m2, m3⟩ := hk3
    have hlt : ea_ X size (X 3 k) (cin_ X k t size) n tgt < 1000000 := by omega
    obtain ⟨L1, hL1, hw1⟩ := ea_walk hX n tgt hlt
    obtain ⟨L, j1, j2, ⟨c, j3, j4⟩, j5⟩ := ih (X 3 k) (cin_ X k t size) ⟨L1, _, hw1, hL1, m3⟩ (fun R a hw hr => hno (k :: R) a ⟨k1, k2, m1, m2, hw⟩ (by simp; omega))
    refine ⟨k :: L, ⟨k1, k2, k3, fun j hj hjk hj2 => ?_, j1⟩, by simp [j2], ⟨c, ⟨k1, k2, m1, m2, j3⟩, j4⟩, fun R a hw hr hab => ?_⟩
    · have := kmin j ⟨hj, by omega, hj2⟩
      omega
    · cases R with
      | nil => simp at hr
      | cons q qs =>
        simp only [List.length_cons] at hr
        obtain ⟨f1, f2⟩ := hld q qs a hw (by omega) hab
        have hkq := kmin q ⟨f1, hw.2.1, f2⟩
        by_cases e : k = q
        · right
          refine ⟨e, ?_⟩
          rw [← e] at hw
          exact j5 qs a hw.2.2.2.2 (by omega) hab
        · left
          omega
end
section
/-! THE COMPONENT's ROUTES: spread, leadsOn, nextContact, findRoute -/
theorem rl_succ (X : St_) (size : Int) (e : Int → Int) (j : Nat) (v : Int) : rl_ X size e (j + 1) v = if X 3 j = v ∧ cin_ X j (e (X 2 j)) size < rl_ X size e j v then cin_ X j (e (X 2 j)) size else rl_ X size e j v := rfl
def pX_spread (node ready size most : Int) (X : St_) : Prop := nOK_ X ∧ 1 ≤ size ∧ size ≤ 30 ∧ 0 ≤ most ∧ most ≤ 5
def qX_spread (node ready size most : Int) (X : St_) (_ : Int) (Y : St_) : Prop := fr_ [23, 24] X Y ∧ ∀ v, 0 ≤ v → v < 6 → Y 23 v = ea_ X size node ready most.toNat v
def csX_spread : Cs_ := (4, false, 0, (fun as X => match as with
  | [a, b, c, d] => pX_spread a b c d X
  | _ => False), (fun as X z Y => match as with
  | [a, b, c, d] => qX_spread a b c d X z Y
  | _ => False))
def mX_spread : Mt_ := (LX, [(90, csX_comingIn)], 0, EX_spread)
theorem sX_spread_0 {Rt : Int → St_ → Prop} {G : Nat → Lo_ → List Vl_ → St_ → Prop} (hG : Clo_ mX_spread Rt G) {X : St_} {node ready size most : Int} (h : G 3 [some (.inr 25), some (.inl node), some (.inl ready), some (.inl size), some (.inl most), some (.inl 0)] [] X) : G 0 [some (.inr 25), some (.inl node), some (.inl ready), some (.inl size), some (.inl most)] [] X := run_ hG [(3, 6), (38, 6), (48, 7), (78, 7)] 2 0 _ _ X h
theorem sX_spread_3 {Rt : Int → St_ → Prop} {G : Nat → Lo_ → List Vl_ → St_ → Prop} (hG : Clo_ mX_spread Rt G) {X : St_} {node ready size most n : Int} (h : (6 ≤ n → G 38 [some (.inr 25), some (.inl node), some (.inl ready), some (.inl size), some (.inl most), some (.inl 0)] [] X) ∧ (n < 6 → (¬ n = node → 0 ≤ n ∧ n < 6 ∧ zR (n + 1) ∧ G 3 [some (.inr 25), some (.inl node), some (.inl ready), some (.inl size), some (.inl most), some (.inl (n + 1))] [] (up_ X 23 n 1000000)) ∧ (n = node → 0 ≤ n ∧ n < 6 ∧ zR (n + 1) ∧ G 3 [some (.inr 25), some (.inl node), some (.inl ready), some (.inl size), some (.inl most), some (.inl (n + 1))] [] (up_ X 23 n ready)))) : G 3 [some (.inr 25), some (.inl node), some (.inl ready), some (.inl size), some (.inl most), some (.inl n)] [] X := run_ hG [(3, 6), (38, 6), (48, 7), (78, 7)] 14 3 _ _ X h
theorem sX_spread_38 {Rt : Int → St_ → Prop} {G : Nat → Lo_ → List Vl_ → St_ → Prop} (hG : Clo_ mX_spread Rt G) {X : St_} {node ready size most n : Int} (h : (most ≤ n → Rt 0 X) ∧ (n < most → G 48 [some (.inr 25), some (.inl node), some (.inl ready), some (.inl size), some (.inl most), some (.inl n), some (.inl 0)] [] X)) : G 38 [some (.inr 25), some (.inl node), some (.inl ready), some (.inl size), some (.inl most), some (.inl n)] [] X := run_ hG [(3, 6), (38, 6), (48, 7), (78, 7)] 5 38 _ _ X h
theorem sX_spread_48 {Rt : Int → St_ → Prop} {G : Nat → Lo_ → List Vl_ → St_ → Prop} (hG : Clo_ mX_spread Rt G) {X : St_} {node ready size most n k : Int} (h : (6 ≤ k → G 78 [some (.inr 25), some (.inl node), some (.inl ready), some (.inl size), some (.inl most), some (.inl n), some (.inl 0)] [] X) ∧ (k < 6 → 0 ≤ k ∧ k < 6 ∧ 0 ≤ k ∧ k < 6 ∧ zR (k + 1) ∧ G 48 [some (.inr 25), some (.inl node), some (.inl ready), some (.inl size), some (.inl most), some (.inl n), some (.inl (k + 1))] [] (up_ X 24 k (X 23 k)))) : G 48 [some (.inr 25), some (.inl node), some (.inl ready), some (.inl size), some (.inl most), some (.inl n), some (.inl k)] [] X := run_ hG [(3, 6), (38, 6), (48, 7), (78, 7)] 13 48 _ _ X h
theorem sX_spread_78 {Rt : Int → St_ → Prop} {G : Nat → Lo_ → List Vl_ → St_ → Prop} (hG : Clo_ mX_spread Rt G) {X : St_} {node ready size most n k : Int} (h : (X 0 0 ≤ k → zR (n + 1) ∧ G 38 [some (.inr 25), some (.inl node), some (.inl ready), some (.inl size), some (.inl most), some (.inl (n + 1))] [] X) ∧ (k < X 0 0 → 0 ≤ k ∧ k < 10 ∧ 0 ≤ X 2 k ∧ X 2 k < 6 ∧ pX_comingIn k (X 24 (X 2 k)) size X ∧ (∀ (z1 : Int) (Y1 : St_), qX_comingIn k (X 24 (X 2 k)) size X z1 Y1 → 0 ≤ k ∧ k < 10 ∧ 0 ≤ k ∧ k < 10 ∧ 0 ≤ Y1 3 k ∧ Y1 3 k < 6 ∧ (Y1 23 (Y1 3 k) ≤ z1 → 0 ≤ k ∧ k < 10 ∧ 0 ≤ Y1 3 k ∧ Y1 3 k < 6 ∧ 0 ≤ Y1 3 k ∧ Y1 3 k < 6 ∧ zR (k + 1) ∧ G 78 [some (.inr 25), some (.inl node), some (.inl ready), some (.inl size), some (.inl most), some (.inl n), some (.inl (k + 1))] [] (up_ Y1 23 (Y1 3 k) (Y1 23 (Y1 3 k)))) ∧ (z1 < Y1 23 (Y1 3 k) → 0 ≤ Y1 3 k ∧ Y1 3 k < 6 ∧ zR (k + 1) ∧ G 78 [some (.inr 25), some (.inl node), some (.inl ready), some (.inl size), some (.inl most), some (.inl n), some (.inl (k + 1))] [] (up_ Y1 23 (Y1 3 k) z1))))) : G 78 [some (.inr 25), some (.inl node), some (.inl ready), some (.inl size), some (.inl most), some (.inl n), some (.inl k)] [] X := run_ hG [(3, 6), (38, 6), (48, 7), (78, 7)] 41 78 _ _ X h
theorem lX_spread78 {node ready size most : Int} {X : St_} (hp : pX_spread node ready size most X) {G : Nat → Lo_ → List Vl_ → St_ → Prop} (hG : Clo_ mX_spread (qX_spread node ready size most X) G) {e : Int → Int} {n : Int} (hn : 0 ≤ n ∧ n < 5)
    (hk : ∀ Z, fr_ [23, 24] X Z → (∀ v, 0 ≤ v → v < 6 → Z 23 v = rl_ X size e (X 0 0).toNat v) → G 38 [some (.inr 25), some (.inl node), some (.inl ready), some (.inl size), some (.inl most), some (.inl (n + 1))] [] Z) :
    ∀ (d j : Nat) (Z : St_), (X 0 0).toNat = j + d → fr_ [23, 24] X Z → (∀ v, 0 ≤ v → v < 6 → Z 23 v = rl_ X size e j v) → (∀ v, 0 ≤ v → v < 6 → Z 24 v = e v) → G 78 [some (.inr 25), some (.inl node), some (.inl ready), some (.inl size), some (.inl most), some (.inl n), some (.inl (j : Int))] [] Z := by
  obtain ⟨hX, hs1, hs2, hm1, hm2⟩ := hp
  intro d
  induction d with
  | zero =>
    intro j Z hj hf h23 h24
    have e0 : Z 0 = X 0 := hf 0 (by decide)
    have hx0 := hX.1
    refine sX_spread_78 hG ⟨fun h => ⟨by omega, hk Z hf ?_⟩, fun h => ?_⟩
    · rw [hj, Nat.add_zero]
      exact h23
    · rw [e0] at h
      omega
  | succ d ih =>
    intro j Z hj hf h23 h24
    have e0 : Z 0 = X 0 := hf 0 (by decide)
    have e2 : Z 2 = X 2 := hf 2 (by decide)
    have e3 : Z 3 = X 3 := hf 3 (by decide)
    have hnt : nt_ Z = nt_ X := hf.nt (by decide)
    have hZ : nOK_ Z := nOK_nt hnt.symm hX
    have hx0 := hX.1
    have hx1 := hX.2.1
    have hjX : (j : Int) < X 0 0 := by omega
    have hkX := hX.2.2 j (by omega) hjX
    have hkZ := hZ.2.2 j (by omega) (by rw [e0]; exact hjX)
    have hkX' := hkX
    obtain ⟨a1, a2, a3, a4, -⟩ := hkX'
    refine sX_spread_78 hG ⟨fun h => ?_, fun h => ⟨by omega, by omega, by rw [e2]; omega, by rw [e2]; omega, ⟨by omega, by omega, hkZ, hs1, hs2⟩, ?_⟩⟩
    · rw [e0] at h
      omega
    · rintro z1 Y1 ⟨rfl, rfl⟩
      have hc : cin_ Y1 j (Y1 24 (Y1 2 j)) size = cin_ X j (e (X 2 j)) size := by
        rw [cin_nt hnt, e2, h24 _ (by omega) (by omega)]
      rw [hc, e3, h23 _ (by omega) (by omega)]
      refine ⟨by omega, by omega, by omega, by omega, by omega, by omega, fun hle => ⟨by omega, by omega, by omega, by omega, by omega, by omega, by omega, ?_⟩, fun hlt => ⟨by omega, by omega, by omega, ?_⟩⟩
      · have q := ih (j + 1) (up_ Y1 23 (X 3 j) (rl_ X size e j (X 3 j))) (by omega) (hf.up (by decide) _ _) (fun v hv0 hv6 => ?_) (fun v hv0 hv6 => ?_)
        · push_cast at q
          exact q
        · rw [rl_succ]
          rw [if_neg (fun hc => by rw [hc.1] at hle; omega)]
          by_cases ev : v = X 3 j
          · rw [ev, up_at]
          · rw [up_nei _ _ _ _ ev]
            exact h23 v hv0 hv6
        · rw [up_ne _ _ _ _ (by decide)]
          exact h24 v hv0 hv6
      · have q := ih (j + 1) (up_ Y1 23 (X 3 j) (cin_ X j (e (X 2 j)) size)) (by omega) (hf.up (by decide) _ _) (fun v hv0 hv6 => ?_) (fun v hv0 hv6 => ?_)
        · push_cast at q
          exact q
        · rw [rl_succ]
          by_cases ev : v = X 3 j
          · rw [ev, up_at, if_pos ⟨rfl, hlt⟩]
          · rw [up_nei _ _ _ _ ev, if_neg (fun hc => ev hc.1.symm)]
            exact h23 v hv0 hv6
        · rw [up_ne _ _ _ _ (by decide)]
          exact h24 v hv0 hv6
theorem lX_spread48 {node ready size most : Int} {X : St_} {G : Nat → Lo_ → List Vl_ → St_ → Prop} (hG : Clo_ mX_spread (qX_spread node ready size most X) G) {e : Int → Int} {n : Int}
    (hk : ∀ Z, fr_ [23, 24] X Z → (∀ v, 0 ≤ v → v < 6 → Z 23 v = e v) → (∀ v, 0 ≤ v → v < 6 → Z 24 v = e v) → G 78 [some (.inr 25), some (.inl node), some (.inl ready), some (.inl size), some (.inl most), some (.inl n), some (.inl 0)] [] Z) :
    ∀ (d : Nat) (k : Int) (Z : St_), 6 - k ≤ d → 0 ≤ k → fr_ [23, 24] X Z → (∀ v, 0 ≤ v → v < 6 → Z 23 v = e v) → (∀ v, 0 ≤ v → v < 6 → v < k → Z 24 v = e v) → G 48 [some (.inr 25), some (.inl node), some (.inl ready), some (.inl size), some (.inl most), some (.inl n), some (.inl k)] [] Z := by
  intro d
  induction d with
  | zero =>
    intro k Z hd h0 hf h23 h24
    exact sX_spread_48 hG ⟨fun h => hk Z hf h23 (fun v h1 h2 => h24 v h1 h2 (by omega)), fun h => by omega⟩
  | succ d ih =>
    intro k Z hd h0 hf h23 h24
    refine sX_spread_48 hG ⟨fun h => hk Z hf h23 (fun v h1 h2 => h24 v h1 h2 (by omega)), fun h => ⟨by omega, by omega, by omega, by omega, by omega, ?_⟩⟩
    refine ih (k + 1) _ (by omega) (by omega) (hf.up (by decide) _ _) (fun v h1 h2 => ?_) (fun v h1 h2 h3 => ?_)
    · rw [up_ne _ _ _ _ (by decide)]
      exact h23 v h1 h2
    · by_cases ev : v = k
      · rw [ev, up_at]
        exact h23 k (by omega) (by omega)
      · rw [up_nei _ _ _ _ ev]
        exact h24 v h1 h2 (by omega)
theorem lX_spread38 {node ready size most : Int} {X : St_} (hp : pX_spread node ready size most X) {G : Nat → Lo_ → List Vl_ → St_ → Prop} (hG : Clo_ mX_spread (qX_spread node ready size most X) G) :
    ∀ (d n : Nat) (Z : St_), most = n + d → fr_ [23, 24] X Z → (∀ v, 0 ≤ v → v < 6 → Z 23 v = ea_ X size node ready n v) → G 38 [some (.inr 25), some (.inl node), some (.inl ready), some (.inl size), some (.inl most), some (.inl (n : Int))] [] Z := by
  have hp' := hp
  obtain ⟨hX, hs1, hs2, hm1, hm2⟩ := hp'
  intro d
  induction d with
  | zero =>
    intro n Z hd hf h23
    refine sX_spread_38 hG ⟨fun h => ⟨hf, ?_⟩, fun h => by omega⟩
    rw [show most.toNat = n by omega]
    exact h23
  | succ d ih =>
    intro n Z hd hf h23
    refine sX_spread_38 hG ⟨fun h => by omega, fun h => ?_⟩
    refine lX_spread48 (e := ea_ X size node ready n) hG (fun Z1 hf1 h1 h2 => ?_) 6 0 Z (by omega) (by omega) hf h23 (fun v h1 h2 h3 => by omega)
    have q := lX_spread78 (e := ea_ X size node ready n) (n := (n : Int)) hp hG (by omega) (fun Z2 hf2 h3 => ?_) (X 0 0).toNat 0 Z1 (by omega) hf1 h1 h2
    · exact q
    · have q := ih (n + 1) Z2 (by omega) hf2 h3
      push_cast at q
      exact q
theorem lX_spread3 {node ready size most : Int} {X : St_} (hp : pX_spread node ready size most X) {G : Nat → Lo_ → List Vl_ → St_ → Prop} (hG : Clo_ mX_spread (qX_spread node ready size most X) G) :
    ∀ (d : Nat) (n : Int) (Z : St_), 6 - n ≤ d → 0 ≤ n → fr_ [23, 24] X Z → (∀ v, 0 ≤ v → v < n → Z 23 v = ea_ X size node ready 0 v) → G 3 [some (.inr 25), some (.inl node), some (.inl ready), some (.inl size), some (.inl most), some (.inl n)] [] Z := by
  have hp' := hp
  obtain ⟨hX, hs1, hs2, hm1, hm2⟩ := hp'
  have fin : ∀ (n : Int) (Z : St_), 6 ≤ n → fr_ [23, 24] X Z → (∀ v, 0 ≤ v → v < n → Z 23 v = ea_ X size node ready 0 v) → G 38 [some (.inr 25), some (.inl node), some (.inl ready), some (.inl size), some (.inl most), some (.inl 0)] [] Z := by
    intro n Z hn hf h
    exact lX_spread38 hp hG most.toNat 0 Z (by omega) hf (fun v h1 h2 => h v h1 (by omega))
  intro d
  induction d with
  | zero =>
    intro n Z hd h0 hf h23
    exact sX_spread_3 hG ⟨fun h => fin n Z h hf h23, fun h => by omega⟩
  | succ d ih =>
    intro n Z hd h0 hf h23
    refine sX_spread_3 hG ⟨fun h => fin n Z h hf h23, fun h => ⟨fun hne => ⟨by omega, by omega, by omega, ?_⟩, fun he => ⟨by omega, by omega, by omega, ?_⟩⟩⟩
    · refine ih (n + 1) _ (by omega) (by omega) (hf.up (by decide) _ _) (fun v h1 h2 => ?_)
      by_cases ev : v = n
      · rw [ev, up_at]
        unfold ea_
        rw [if_neg hne]
      · rw [up_nei _ _ _ _ ev]
        exact h23 v h1 (by omega)
    · refine ih (n + 1) _ (by omega) (by omega) (hf.up (by decide) _ _) (fun v h1 h2 => ?_)
      by_cases ev : v = n
      · rw [ev, up_at]
        unfold ea_
        rw [if_pos he]
      · rw [up_nei _ _ _ _ ev]
        exact h23 v h1 (by omega)
theorem vX_spread {node ready size most : Int} {X : St_} (r1 : zR node) (r2 : zR ready) (r3 : zR size) (r4 : zR most) (hX : rgX_ X) (hp : pX_spread node ready size most X) {G : Nat → Lo_ → List Vl_ → St_ → Prop} (hG : Clo_ mX_spread (qX_spread node ready size most X) G) : G 0 [some (.inr 25), some (.inl node), some (.inl ready), some (.inl size), some (.inl most)] [] X := by
  exact sX_spread_0 hG (lX_spread3 hp hG 6 0 X (by omega) (by omega) (fr_.refl _ _) (fun v h1 h2 => by omega))
theorem ckX_spread : ∀ q ∈ mX_spread.2.1, Ck_ 0 RX0 LX 2 q.1 q.2 := List.forall_mem_cons.mpr ⟨⟨yX0_comingIn, cX0_comingIn, 6, 1, okX_comingIn, by decide, by decide, by decide +kernel, rfl, ⟨by decide, by decide⟩, lw_V q163 q165 qs7 q33 q166⟩, fun _ h => absurd h List.not_mem_nil⟩
theorem okX_spread : Cn_ 0 LX yX0_spread cX0_spread 8 2 csX_spread := by
  refine Cn_of mX_spread KlX hfX (by decide +kernel) rfl rfl rfl hX_spread ckX_spread (Or.inl (by decide)) ?_
  intro as X hl hr hX hp G hG
  match as, hl with
  | [a, b, c, d], _ => exact vX_spread (hr _ (by simp)) (hr _ (by simp)) (hr _ (by simp)) (hr _ (by simp)) hX hp hG
def pX_leadsOn (k at_ tgt time size left best : Int) (X : St_) : Prop := nOK_ X ∧ 0 ≤ k ∧ k < X 0 0 ∧ 1 ≤ size ∧ size ≤ 30 ∧ 0 ≤ tgt ∧ tgt < 6 ∧ 1 ≤ left ∧ left ≤ 5
def qX_leadsOn (k at_ tgt time size left best : Int) (X : St_) (z : Int) (Y : St_) : Prop := fr_ [23, 24] X Y ∧ (z = 0 ∨ z = 1) ∧ (z = 1 ↔ ld_ X size tgt best (left - 1).toNat at_ time k)
def csX_leadsOn : Cs_ := (7, false, 2, (fun as X => match as with
  | [a, b, c, d, e, f, g] => pX_leadsOn a b c d e f g X
  | _ => False), (fun as X z Y => match as with
  | [a, b, c, d, e, f, g] => qX_leadsOn a b c d e f g X z Y
  | _ => False))
def mX_leadsOn : Mt_ := (LX, [(90, csX_comingIn), (93, csX_spread)], 2, EX_leadsOn)
theorem sX_leadsOn_0 {Rt : Int → St_ → Prop} {G : Nat → Lo_ → List Vl_ → St_ → Prop} (hG : Clo_ mX_leadsOn Rt G) {X : St_} {k at_ tgt time size left best : Int} (h : 0 ≤ k ∧ k < 10 ∧ (X 2 k = at_ → pX_comingIn k time size X ∧ (∀ (z1 : Int) (Y1 : St_), qX_comingIn k time size X z1 Y1 → (z1 < 1000000 → 0 ≤ k ∧ k < 10 ∧ zR (left - 1) ∧ pX_spread (Y1 3 k) z1 size (left - 1) Y1 ∧ (∀ (z2 : Int) (Y2 : St_), qX_spread (Y1 3 k) z1 size (left - 1) Y1 z2 Y2 → 0 ≤ tgt ∧ tgt < 6 ∧ (best < Y2 23 tgt → ((0 : Int) = 0 ∨ (0 : Int) = 1) ∧ Rt 0 Y2) ∧ (Y2 23 tgt ≤ best → ((1 : Int) = 0 ∨ (1 : Int) = 1) ∧ Rt 1 Y2))) ∧ (1000000 ≤ z1 → ((0 : Int) = 0 ∨ (0 : Int) = 1) ∧ Rt 0 Y1))) ∧ (¬ X 2 k = at_ → ((0 : Int) = 0 ∨ (0 : Int) = 1) ∧ Rt 0 X)) : G 0 [some (.inr 25), some (.inl k), some (.inl at_), some (.inl tgt), some (.inl time), some (.inl size), some (.inl left), some (.inl best)] [] X := run_ hG [] 35 0 _ _ X h
theorem vX_leadsOn {k at_ tgt time size left best : Int} {X : St_} (r1 : zR k) (r2 : zR at_) (r3 : zR tgt) (r4 : zR time) (r5 : zR size) (r6 : zR left) (r7 : zR best) (hX : rgX_ X) (hp : pX_leadsOn k at_ tgt time size left best X) {G : Nat → Lo_ → List Vl_ → St_ → Prop} (hG : Clo_ mX_leadsOn (qX_leadsOn k at_ tgt time size left best X) G) : G 0 [some (.inr 25), some (.inl k), some (.inl at_), some (.inl tgt), some (.inl time), some (.inl size), some (.inl left), some (.inl best)] [] X := by
  obtain ⟨hn, h1, h2, h3, h4, h5, h6, h7, h8⟩ := hp
  have hx1 := hn.2.1
  refine sX_leadsOn_0 hG ⟨h1, by omega, fun he => ⟨⟨h1, by omega, hn.2.2 k h1 h2, h3, h4⟩, ?_⟩, fun he => ⟨by omega, fr_.refl _ _, by omega, ⟨fun q => by omega, fun q => absurd q.1 he⟩⟩⟩
  rintro z1 Y1 ⟨rfl, rfl⟩
  refine ⟨fun hlt => ⟨h1, by omega, by omega, ⟨hn, h3, h4, by omega, by omega⟩, ?_⟩, fun hge => ⟨by omega, fr_.refl _ _, by omega, ⟨fun q => by omega, fun q => by have := q.2.1; omega⟩⟩⟩
  rintro z2 Y2 ⟨hf, hv⟩
  rw [hv tgt h5 h6]
  exact ⟨h5, h6, fun hgt => ⟨by omega, hf, by omega, ⟨fun q => by omega, fun q => by have := q.2.2; omega⟩⟩, fun hle => ⟨by omega, hf, by omega, ⟨fun _ => ⟨he, hlt, hle⟩, fun _ => rfl⟩⟩⟩
theorem ckX_leadsOn : ∀ q ∈ mX_leadsOn.2.1, Ck_ 0 RX0 LX 3 q.1 q.2 := List.forall_mem_cons.mpr ⟨⟨yX0_comingIn, cX0_comingIn, 6, 1, okX_comingIn, by decide, by decide, by decide +kernel, rfl, ⟨by decide, by decide⟩, lw_V q163 q165 qs7 q33 q166⟩, List.forall_mem_cons.mpr ⟨⟨yX0_spread, cX0_spread, 8, 2, okX_spread, by decide, by decide, by decide +kernel, rfl, ⟨by decide, by decide⟩, lw_V q158 q160 qs6 q33 q161⟩, fun _ h => absurd h List.not_mem_nil⟩⟩
theorem okX_leadsOn : Cn_ 0 LX yX0_leadsOn cX0_leadsOn 9 3 csX_leadsOn := by
  refine Cn_of mX_leadsOn KlX hfX (by decide +kernel) rfl rfl rfl hX_leadsOn ckX_leadsOn (Or.inl (by decide)) ?_
  intro as X hl hr hX hp G hG
  match as, hl with
  | [a, b, c, d, e, f, g], _ => exact vX_leadsOn (hr _ (by simp)) (hr _ (by simp)) (hr _ (by simp)) (hr _ (by simp)) (hr _ (by simp)) (hr _ (by simp)) (hr _ (by simp)) hX hp hG
theorem ld_nt {X Y : St_} (h : nt_ X = nt_ Y) (size tgt best : Int) (n : Nat) (v t k : Int) : ld_ X size tgt best n v t k ↔ ld_ Y size tgt best n v t k := by
  unfold ld_
  rw [nt_get h (by decide : 2 ≤ 8), nt_get h (by decide : 3 ≤ 8), cin_nt h, ea_nt h]
def pX_nextContact (at_ tgt time size left best : Int) (X : St_) : Prop := nOK_ X ∧ 1 ≤ X 0 0 ∧ 1 ≤ size ∧ size ≤ 30 ∧ 0 ≤ tgt ∧ tgt < 6 ∧ 1 ≤ left ∧ left ≤ 5
def qX_nextContact (at_ tgt time size left best : Int) (X : St_) (z : Int) (Y : St_) : Prop := fr_ [23, 24] X Y ∧ 0 ≤ z ∧ z < X 0 0 ∧ (∀ j, 0 ≤ j → j < z → ¬ ld_ X size tgt best (left - 1).toNat at_ time j) ∧ (z = X 0 0 - 1 ∨ ld_ X size tgt best (left - 1).toNat at_ time z)
def csX_nextContact : Cs_ := (6, false, 1, (fun as X => match as with
  | [a, b, c, d, e, f] => pX_nextContact a b c d e f X
  | _ => False), (fun as X z Y => match as with
  | [a, b, c, d, e, f] => qX_nextContact a b c d e f X z Y
  | _ => False))
def mX_nextContact : Mt_ := (LX, [(104, csX_leadsOn)], 1, EX_nextContact)
theorem sX_nextContact_0 {Rt : Int → St_ → Prop} {G : Nat → Lo_ → List Vl_ → St_ → Prop} (hG : Clo_ mX_nextContact Rt G) {X : St_} {at_ tgt time size left best : Int} (h : G 3 [some (.inr 25), some (.inl at_), some (.inl tgt), some (.inl time), some (.inl size), some (.inl left), some (.inl best), some (.inl 0)] [] X) : G 0 [some (.inr 25), some (.inl at_), some (.inl tgt), some (.inl time), some (.inl size), some (.inl left), some (.inl best)] [] X := run_ hG [(3, 8)] 2 0 _ _ X h
theorem sX_nextContact_3 {Rt : Int → St_ → Prop} {G : Nat → Lo_ → List Vl_ → St_ → Prop} (hG : Clo_ mX_nextContact Rt G) {X : St_} {at_ tgt time size left best k : Int} (h : zR ((X 0 0) - 1) ∧ ((X 0 0) - 1 ≤ k → Rt k X) ∧ (k < (X 0 0) - 1 → pX_leadsOn k at_ tgt time size left best X ∧ (∀ (z1 : Int) (Y1 : St_), qX_leadsOn k at_ tgt time size left best X z1 Y1 → (¬ z1 = 0 → Rt k Y1) ∧ (z1 = 0 → zR (k + 1) ∧ G 3 [some (.inr 25), some (.inl at_), some (.inl tgt), some (.inl time), some (.inl size), some (.inl left), some (.inl best), some (.inl (k + 1))] [] Y1)))) : G 3 [some (.inr 25), some (.inl at_), some (.inl tgt), some (.inl time), some (.inl size), some (.inl left), some (.inl best), some (.inl k)] [] X := run_ hG [(3, 8)] 18 3 _ _ X h
theorem lX_nextContact {at_ tgt time size left best : Int} {X : St_} (hp : pX_nextContact at_ tgt time size left best X) {G : Nat → Lo_ → List Vl_ → St_ → Prop} (hG : Clo_ mX_nextContact (qX_nextContact at_ tgt time size left best X) G) :
    ∀ (d : Nat) (k : Int) (Z : St_), X 0 0 - k ≤ d → 0 ≤ k → k < X 0 0 → fr_ [23, 24] X Z → (∀ j, 0 ≤ j → j < k → ¬ ld_ X size tgt best (left - 1).toNat at_ time j) → G 3 [some (.inr 25), some (.inl at_), some (.inl tgt), some (.inl time), some (.inl size), some (.inl left), some (.inl best), some (.inl k)] [] Z := by
  obtain ⟨hn, h1, h2, h3, h4, h5, h6, h7⟩ := hp
  have hx1 := hn.2.1
  intro d
  induction d with
  | zero => intro k Z hd h0 hk; omega
  | succ d ih =>
    intro k Z hd h0 hk hf hno
    have e0 : Z 0 = X 0 := hf 0 (by decide)
    have hnt : nt_ Z = nt_ X := hf.nt (by decide)
    have hZ : nOK_ Z := nOK_nt hnt.symm hn
    refine sX_nextContact_3 hG ?_
    rw [e0]
    refine ⟨by omega, fun h => ⟨hf, h0, hk, hno, Or.inl (by omega)⟩, fun h => ⟨⟨hZ, h0, by rw [e0]; exact hk, h2, h3, h4, h5, h6, h7⟩, ?_⟩⟩
    rintro z1 Y1 ⟨hf1, hz, hiff⟩
    rw [ld_nt hnt] at hiff
    refine ⟨fun hne => ⟨hf.trans hf1, h0, hk, hno, Or.inr (hiff.mp (by omega))⟩, fun he => ⟨by omega, ih (k + 1) Y1 (by omega) (by omega) (by omega) (hf.trans hf1) (fun j hj0 hj => ?_)⟩⟩
    by_cases ej : j = k
    · rw [ej]
      intro q
      have := hiff.mpr q
      omega
    · exact hno j hj0 (by omega)
theorem vX_nextContact {at_ tgt time size left best : Int} {X : St_} (r1 : zR at_) (r2 : zR tgt) (r3 : zR time) (r4 : zR size) (r5 : zR left) (r6 : zR best) (hX : rgX_ X) (hp : pX_nextContact at_ tgt time size left best X) {G : Nat → Lo_ → List Vl_ → St_ → Prop} (hG : Clo_ mX_nextContact (qX_nextContact at_ tgt time size left best X) G) : G 0 [some (.inr 25), some (.inl at_), some (.inl tgt), some (.inl time), some (.inl size), some (.inl left), some (.inl best)] [] X := by
  have h1 := hp.2.1
  exact sX_nextContact_0 hG (lX_nextContact hp hG (X 0 0).toNat 0 X (by omega) (by omega) (by omega) (fr_.refl _ _) (fun j h1 h2 => by omega))
theorem ckX_nextContact : ∀ q ∈ mX_nextContact.2.1, Ck_ 0 RX0 LX 4 q.1 q.2 := List.forall_mem_cons.mpr ⟨⟨yX0_leadsOn, cX0_leadsOn, 9, 3, okX_leadsOn, by decide, by decide, by decide +kernel, rfl, ⟨by decide, by decide⟩, lw_V q175 q177 qs10 q33 q178⟩, fun _ h => absurd h List.not_mem_nil⟩
theorem okX_nextContact : Cn_ 0 LX yX0_nextContact cX0_nextContact 8 4 csX_nextContact := by
  refine Cn_of mX_nextContact KlX hfX (by decide +kernel) rfl rfl rfl hX_nextContact ckX_nextContact (Or.inl (by decide)) ?_
  intro as X hl hr hX hp G hG
  match as, hl with
  | [a, b, c, d, e, f], _ => exact vX_nextContact (hr _ (by simp)) (hr _ (by simp)) (hr _ (by simp)) (hr _ (by simp)) (hr _ (by simp)) (hr _ (by simp)) hX hp hG
end
section
/-! THE COMPONENT's findRoute -/
def pX_findRoute (node tgt ready size : Int) (X : St_) : Prop := nOK_ X ∧ 0 ≤ tgt ∧ tgt < 6 ∧ node ≠ tgt ∧ ready < 1000000 ∧ 1 ≤ size ∧ size ≤ 30
def qX_findRoute (node tgt ready size : Int) (X : St_) (z : Int) (Y : St_) : Prop := fr_ [20, 21, 22, 23, 24] X Y ∧ ((z = 1000000 ∧ ∀ R c, R ≠ [] → R.length ≤ 5 → ¬ wk_ X size node ready R tgt c) ∨
  (z < 1000000 ∧ ∃ L, bs_ X size node ready tgt L z ∧ Y 20 0 = L.length ∧ ∀ i : Nat, i < L.length → Y 21 i = L.getD i 0 ∧ Y 22 i = (bg_ X size ready L).getD i 0))
def csX_findRoute : Cs_ := (4, false, 1, (fun as X => match as with
  | [a, b, c, d] => pX_findRoute a b c d X
  | _ => False), (fun as X z Y => match as with
  | [a, b, c, d] => qX_findRoute a b c d X z Y
  | _ => False))
def mX_findRoute : Mt_ := (LX, [(93, csX_spread), (100, csX_nextContact), (79, csX_ticksFor), (83, csX_firstBegin)], 1, EX_findRoute)
set_option maxRecDepth 100000 in
theorem sX_findRoute_0 {Rt : Int → St_ → Prop} {G : Nat → Lo_ → List Vl_ → St_ → Prop} (hG : Clo_ mX_findRoute Rt G) {X : St_} {node tgt ready size : Int} (h : pX_spread node ready size 5 X ∧ (∀ (z1 : Int) (Y1 : St_), qX_spread node ready size 5 X z1 Y1 → 0 ≤ tgt ∧ tgt < 6 ∧ (Y1 23 tgt < 1000000 → pX_spread node ready size 1 Y1 ∧ (∀ (z2 : Int) (Y2 : St_), qX_spread node ready size 1 Y1 z2 Y2 → G 40 [some (.inr 25), some (.inl node), some (.inl tgt), some (.inl ready), some (.inl size), some (.inl (Y1 23 tgt)), some (.inl 1)] [] Y2)) ∧ (1000000 ≤ Y1 23 tgt → Rt 1000000 Y1))) : G 0 [some (.inr 25), some (.inl node), some (.inl tgt), some (.inl ready), some (.inl size)] [] X := run_ hG [(40, 7), (88, 10)] 22 0 _ _ X h
set_option maxRecDepth 100000 in
theorem sX_findRoute_40 {Rt : Int → St_ → Prop} {G : Nat → Lo_ → List Vl_ → St_ → Prop} (hG : Clo_ mX_findRoute Rt G) {X : St_} {node tgt ready size best len : Int} (h : (5 ≤ len → G 88 [some (.inr 25), some (.inl node), some (.inl tgt), some (.inl ready), some (.inl size), some (.inl best), some (.inl len), some (.inl node), some (.inl ready), some (.inl len)] [] (up_ X 20 0 0)) ∧ (len < 5 → 0 ≤ tgt ∧ tgt < 6 ∧ (X 23 tgt ≤ best → G 88 [some (.inr 25), some (.inl node), some (.inl tgt), some (.inl ready), some (.inl size), some (.inl best), some (.inl len), some (.inl node), some (.inl ready), some (.inl len)] [] (up_ X 20 0 0)) ∧ (best < X 23 tgt → zR (len + 1) ∧ pX_spread node ready size (len + 1) X ∧ (∀ (z1 : Int) (Y1 : St_), qX_spread node ready size (len + 1) X z1 Y1 → G 40 [some (.inr 25), some (.inl node), some (.inl tgt), some (.inl ready), some (.inl size), some (.inl best), some (.inl (len + 1))] [] Y1)))) : G 40 [some (.inr 25), some (.inl node), some (.inl tgt), some (.inl ready), some (.inl size), some (.inl best), some (.inl len)] [] X := run_ hG [(40, 7), (88, 10)] 18 40 _ _ X h
set_option maxRecDepth 100000 in
theorem sX_findRoute_88 {Rt : Int → St_ → Prop} {G : Nat → Lo_ → List Vl_ → St_ → Prop} (hG : Clo_ mX_findRoute Rt G) {X : St_} {node tgt ready size best len at_ time left : Int} (h : (left ≤ 0 → Rt best X) ∧ (0 < left → pX_nextContact at_ tgt time size left best X ∧ (∀ (z1 : Int) (Y1 : St_), qX_nextContact at_ tgt time size left best X z1 Y1 → pX_ticksFor z1 size Y1 ∧ (∀ (z2 : Int) (Y2 : St_), qX_ticksFor z1 size Y1 z2 Y2 → 0 ≤ Y2 20 0 ∧ Y2 20 0 < 5 ∧ pX_firstBegin z1 time z2 (up_ Y2 21 (Y2 20 0) z1) ∧ (∀ (z3 : Int) (Y3 : St_), qX_firstBegin z1 time z2 (up_ Y2 21 (Y2 20 0) z1) z3 Y3 → 0 ≤ Y2 20 0 ∧ Y2 20 0 < 5 ∧ 0 ≤ Y3 20 0 ∧ Y3 20 0 < 5 ∧ zR (((up_ Y3 22 (Y2 20 0) z3) 22 (Y3 20 0)) + z2) ∧ 0 ≤ z1 ∧ z1 < 10 ∧ zR ((((up_ Y3 22 (Y2 20 0) z3) 22 (Y3 20 0)) + z2) + (Y3 7 z1)) ∧ 0 ≤ z1 ∧ z1 < 10 ∧ zR ((Y3 20 0) + 1) ∧ zR (left + (-1)) ∧ G 88 [some (.inr 25), some (.inl node), some (.inl tgt), some (.inl ready), some (.inl size), some (.inl best), some (.inl len), some (.inl (Y3 3 z1)), some (.inl ((((up_ Y3 22 (Y2 20 0) z3) 22 (Y3 20 0)) + z2) + (Y3 7 z1))), some (.inl (left + (-1)))] [] (up_ (up_ Y3 22 (Y2 20 0) z3) 20 0 ((Y3 20 0) + 1))))))) : G 88 [some (.inr 25), some (.inl node), some (.inl tgt), some (.inl ready), some (.inl size), some (.inl best), some (.inl len), some (.inl at_), some (.inl time), some (.inl left)] [] X := run_ hG [(40, 7), (88, 10)] 58 88 _ _ X h
theorem lX_findRoute88 {node tgt ready size : Int} {X : St_} (hp : pX_findRoute node tgt ready size X) {G : Nat → Lo_ → List Vl_ → St_ → Prop} (hG : Clo_ mX_findRoute (qX_findRoute node tgt ready size X) G) {best len : Int} (hbest : best < 1000000) {L : List Int} (hL : bs_ X size node ready tgt L best) :
    ∀ (L2 P B : List Int) (at_ time : Int) (Z : St_), P ++ L2 = L → gd_ X size tgt best L2.length at_ time L2 → B ++ bg_ X size time L2 = bg_ X size ready L → B.length = P.length → fr_ [20, 21, 22, 23, 24] X Z → Z 20 0 = P.length → (∀ i : Nat, i < P.length → Z 21 i = L.getD i 0 ∧ Z 22 i = (bg_ X size ready L).getD i 0) →
      G 88 [some (.inr 25), some (.inl node), some (.inl tgt), some (.inl ready), some (.inl size), some (.inl best), some (.inl len), some (.inl at_), some (.inl time), some (.inl (L2.length : Int))] [] Z := by
  obtain ⟨hn, h1, h2, h3, h4, h5, h6⟩ := hp
  have hl5 := hL.2.2.1
  intro L2
  induction L2 with
  | nil =>
    intro P B at_ time Z hPL hgd hB hBl hf h20 hi
    refine sX_findRoute_88 hG ⟨fun _ => ⟨hf, Or.inr ⟨hbest, L, hL, ?_, ?_⟩⟩, fun h => by simp at h⟩
    · rw [h20, ← hPL, List.append_nil]
    · rw [List.append_nil] at hPL
      intro i hiL
      exact hi i (by rw [hPL]; exact hiL)
  | cons k ks ih =>
    intro P B at_ time Z hPL hgd hB hBl hf h20 hi
    obtain ⟨g1, g2, g3, g4, g5⟩ := hgd
    have hx1 := hn.2.1
    have hPlen : P.length + (ks.length + 1) = L.length := by rw [← hPL, List.length_append, List.length_cons]
    have e0 : Z 0 = X 0 := hf 0 (by decide)
    have hnt : nt_ Z = nt_ X := hf.nt (by decide)
    have hZ : nOK_ Z := nOK_nt hnt.symm hn
    refine sX_findRoute_88 hG ⟨fun h => by simp at h; omega, fun _ => ⟨⟨hZ, by rw [e0]; omega, h5, h6, h1, h2, by simp; omega, by simp; omega⟩, ?_⟩⟩
    rintro z1 Y1 ⟨hf1, q1, q2, q3, q4⟩
    have hsub : (((k :: ks).length : Int) - 1).toNat = ks.length := by simp
    rw [hsub] at q3 q4
    have hz : z1 = k := by
      rw [e0] at q2 q4
      by_cases c1 : z1 < k
      · rcases q4 with q4 | q4
        · omega
        · exact absurd ((ld_nt hnt _ _ _ _ _ _ _).mp q4) (g4 z1 q1 c1)
      · by_cases c2 : k < z1
        · exact absurd ((ld_nt hnt _ _ _ _ _ _ _).mpr g3) (q3 k g1 c2)
        · omega
    subst hz
    have hf01 : fr_ [20, 21, 22, 23, 24] X Y1 := hf.trans (hf1.mono (by decide))
    have hnt1 : nt_ Y1 = nt_ X := hf01.nt (by decide)
    have hk1 : kOK_ Y1 z1 := (nOK_nt hnt1.symm hn).2.2 z1 g1 (by rw [hf01 0 (by decide)]; exact g2)
    have hk1' := hk1
    obtain ⟨a1, a2, a3, a4, a5, a6, a7, a8, a9, a10, a11⟩ := hk1'
    have hp0 : Y1 20 0 = (P.length : Int) := by rw [hf1 20 (by decide)]; exact h20
    refine ⟨⟨g1, by omega, h5, h6, a8, a9⟩, ?_⟩
    rintro z2 Y2 ⟨rfl, rfl⟩
    have ht1 := tk_pos (X := Y2) (k := z1) a8 h5
    have ht2 := tk_le (X := Y2) (k := z1) a8 h5
    have hntW : nt_ (up_ Y2 21 (Y2 20 0) z1) = nt_ X := by rw [nt_up _ _ _ (by decide), hnt1]
    have hkW : kOK_ (up_ Y2 21 (Y2 20 0) z1) z1 := (nOK_nt hntW.symm hn).2.2 z1 g1 (by rw [up_ne _ _ _ _ (by decide), hf01 0 (by decide)]; exact g2)
    refine ⟨by omega, by omega, ⟨g1, by omega, hkW, by omega, by omega⟩, ?_⟩
    rintro z3 Y3 ⟨rfl, rfl⟩
    rw [fb_nt hntW, tk_nt hnt1]
    have hkX : kOK_ X z1 := hn.2.2 z1 g1 g2
    have htk : tk_ Y2 z1 size = tk_ X z1 size := tk_nt hnt1 _ _
    rw [htk] at ht1 ht2
    rcases cin_bound (t := time) hkX h5 with hcb | ⟨b1, b2, b3, b4, b5, b6, b7⟩
    · exact absurd g3.2.1 (by omega)
    · have e7 : Y2 7 = X 7 := hf01 7 (by decide)
      have hx7 : 0 ≤ X 7 z1 ∧ X 7 z1 ≤ 9 := by rw [← e7]; exact ⟨a10, a11⟩
      have e3 : Y2 3 = X 3 := hf01 3 (by decide)
      simp only [up_at, up_ne _ _ _ _ (show (20 : Nat) ≠ 21 by decide), up_ne _ _ _ _ (show (7 : Nat) ≠ 21 by decide), up_ne _ _ _ _ (show (3 : Nat) ≠ 21 by decide), hp0, e7, e3]
      rw [← b4]
      refine ⟨by omega, by omega, by omega, by omega, by omega, g1, by omega, by omega, g1, by omega, by omega, by simp; omega, ?_⟩
      have q := ih (P ++ [z1]) (B ++ [fb_ X z1 time (tk_ X z1 size)]) (X 3 z1) (cin_ X z1 time size) (up_ (up_ (up_ Y2 21 (P.length : Int) z1) 22 (P.length : Int) (fb_ X z1 time (tk_ X z1 size))) 20 0 ((P.length : Int) + 1)) (by rw [List.append_assoc]; exact hPL) g5 (by rw [List.append_assoc]; exact hB) (by simp [hBl]) (((hf01.up (by decide) _ _).up (by decide) _ _).up (by decide) _ _) (by rw [up_at]; simp) ?_
      · have hlen : ((z1 :: ks).length : Int) + -1 = (ks.length : Int) := by rw [List.length_cons]; push_cast; omega
        rw [hlen]
        exact q
      · intro i hiP
        rw [List.length_append, List.length_singleton] at hiP
        by_cases ei : i = P.length
        · subst ei
          constructor
          · rw [← hPL]
            simp [up_]
          · rw [← hB, ← hBl]
            simp [up_, bg_, hBl]
        · have hne : ¬ ((i : Int) = (P.length : Int)) := by omega
          have hh := hi i (by omega)
          simp only [up_, hne, and_false, if_false]
          rw [hf1 21 (by decide), hf1 22 (by decide)]
          exact hh
theorem lX_findRoute40 {node tgt ready size : Int} {X : St_} (hp : pX_findRoute node tgt ready size X) {G : Nat → Lo_ → List Vl_ → St_ → Prop} (hG : Clo_ mX_findRoute (qX_findRoute node tgt ready size X) G) {best : Int} (hbest : best < 1000000) (hb5 : best = ea_ X size node ready 5 tgt) :
    ∀ (d len : Nat) (Z : St_), len + d = 5 → 1 ≤ len → fr_ [20, 21, 22, 23, 24] X Z → Z 23 tgt = ea_ X size node ready len tgt → (∀ R a, wk_ X size node ready R tgt a → R.length < len → best < a) →
      G 40 [some (.inr 25), some (.inl node), some (.inl tgt), some (.inl ready), some (.inl size), some (.inl best), some (.inl (len : Int))] [] Z := by
  have hp' := hp
  obtain ⟨hn, h1, h2, h3, h4, h5, h6⟩ := hp'
  have fin : ∀ (len : Nat) (Z : St_), 1 ≤ len → len ≤ 5 → fr_ [20, 21, 22, 23, 24] X Z → ea_ X size node ready len tgt ≤ best → (∀ R a, wk_ X size node ready R tgt a → R.length < len → best < a) →
      G 88 [some (.inr 25), some (.inl node), some (.inl tgt), some (.inl ready), some (.inl size), some (.inl best), some (.inl (len : Int)), some (.inl node), some (.inl ready), some (.inl (len : Int))] [] (up_ Z 20 0 0) := by
    intro len Z hl1 hl5 hf hle hno
    obtain ⟨L0, k1, k2⟩ := ea_walk (size := size) (node := node) (ready := ready) hn len tgt (by omega)
    obtain ⟨L, j1, j2, ⟨a, j3, j4⟩, j5⟩ := gd_ex hn h5 hbest len node ready ⟨L0, _, k2, k1, hle⟩ hno
    have hba := ea_min hn h5 5 L tgt a (by omega) j3
    have ha : a = best := by omega
    subst ha
    have hbs : bs_ X size node ready tgt L a := by
      refine ⟨j3, ?_, by omega, fun R c hR1 hR2 hR3 => ?_⟩
      · intro e
        rw [e] at j2
        simp at j2
        omega
      · have hc := ea_min hn h5 5 R tgt c hR2 hR3
        by_cases e : a < c
        · exact Or.inl e
        · have e2 : a = c := by omega
          refine Or.inr ⟨e2, ?_⟩
          by_cases e3 : L.length < R.length
          · exact Or.inl e3
          · refine Or.inr ?_
            have : ¬ R.length < len := fun q => by have := hno R c hR3 q; omega
            exact ⟨by omega, j5 R c hR3 (by omega) (by omega)⟩
    have q := lX_findRoute88 (len := (len : Int)) hp hG hbest hbs L [] [] node ready (up_ Z 20 0 0) rfl (by rw [j2]; exact j1) rfl rfl (hf.up (by decide) _ _) (by rw [up_at]; rfl) (fun i hi => by simp at hi)
    rw [j2] at q
    exact q
  intro d
  induction d with
  | zero =>
    intro len Z hd hl hf h23 hno
    have : len = 5 := by omega
    subst this
    exact sX_findRoute_40 hG ⟨fun _ => fin 5 Z (by omega) (by omega) hf (by omega) hno, fun h => by simp at h⟩
  | succ d ih =>
    intro len Z hd hl hf h23 hno
    refine sX_findRoute_40 hG ⟨fun h => by omega, fun h => ⟨h1, h2, fun hle => ?_, fun hgt => ⟨by omega, ?_, ?_⟩⟩⟩
    · exact fin len Z hl (by omega) hf (by omega) hno
    · exact ⟨nOK_nt (hf.nt (by decide)).symm hn, h5, h6, by omega, by omega⟩
    · rintro z1 Y1 ⟨hf1, hv⟩
      have q := ih (len + 1) Y1 (by omega) (by omega) (hf.trans (hf1.mono (by decide))) ?_ ?_
      · push_cast at q
        exact q
      · rw [hv tgt h1 h2, ea_nt (hf.nt (by decide))]
        congr 1
      · intro R a hR hl
        have := ea_min hn h5 len R tgt a (by omega) hR
        omega
theorem vX_findRoute {node tgt ready size : Int} {X : St_} (r1 : zR node) (r2 : zR tgt) (r3 : zR ready) (r4 : zR size) (hX : rgX_ X) (hp : pX_findRoute node tgt ready size X) {G : Nat → Lo_ → List Vl_ → St_ → Prop} (hG : Clo_ mX_findRoute (qX_findRoute node tgt ready size X) G) : G 0 [some (.inr 25), some (.inl node), some (.inl tgt), some (.inl ready), some (.inl size)] [] X := by
  have hp' := hp
  obtain ⟨hn, h1, h2, h3, h4, h5, h6⟩ := hp'
  refine sX_findRoute_0 hG ⟨⟨hn, h5, h6, by omega, by omega⟩, ?_⟩
  rintro z1 Y1 ⟨hf1, hv1⟩
  rw [hv1 tgt h1 h2]
  have e5 : (5 : Int).toNat = 5 := rfl
  rw [e5]
  have hfm : fr_ [20, 21, 22, 23, 24] X Y1 := hf1.mono (by decide)
  have hZ : nOK_ Y1 := nOK_nt (hf1.nt (by decide)).symm hn
  refine ⟨h1, h2, fun hlt => ⟨⟨hZ, h5, h6, by omega, by omega⟩, ?_⟩, fun hge => ⟨hfm, Or.inl ⟨rfl, ?_⟩⟩⟩
  · rintro z2 Y2 ⟨hf2, hv2⟩
    refine lX_findRoute40 hp hG hlt rfl 4 1 Y2 rfl (by omega) (hfm.trans (hf2.mono (by decide))) ?_ ?_
    · rw [hv2 tgt h1 h2, ea_nt (hf1.nt (by decide))]
      rfl
    · intro R a hR hl
      cases R with
      | nil => exact absurd hR.1.symm h3
      | cons q qs => simp at hl
  · intro R c hR1 hR2 hR3
    have hc := ea_min hn h5 5 R tgt c hR2 hR3
    have := (wk_len hn h5 R hR3).2 hR1
    omega
theorem ckX_findRoute : ∀ q ∈ mX_findRoute.2.1, Ck_ 0 RX0 LX 5 q.1 q.2 := List.forall_mem_cons.mpr ⟨⟨yX0_spread, cX0_spread, 8, 2, okX_spread, by decide, by decide, by decide +kernel, rfl, ⟨by decide, by decide⟩, lw_V q158 q160 qs6 q33 q161⟩, List.forall_mem_cons.mpr ⟨⟨yX0_nextContact, cX0_nextContact, 8, 4, okX_nextContact, by decide, by decide, by decide +kernel, rfl, ⟨by decide, by decide⟩, lw_V q171 q173 qs9 q33 q174⟩, List.forall_mem_cons.mpr ⟨⟨yX0_ticksFor, cX0_ticksFor, 3, 0, okX_ticksFor, by decide, by decide, by decide +kernel, rfl, ⟨by decide, by decide⟩, lw_V q146 q148 qs3 q33 q149⟩, List.forall_mem_cons.mpr ⟨⟨yX0_firstBegin, cX0_firstBegin, 7, 0, okX_firstBegin, by decide, by decide, by decide +kernel, rfl, ⟨by decide, by decide⟩, lw_V q167 q169 qs8 q33 q170⟩, fun _ h => absurd h List.not_mem_nil⟩⟩⟩⟩
theorem okX_findRoute : Cn_ 0 LX yX0_findRoute cX0_findRoute 12 5 csX_findRoute := by
  refine Cn_of mX_findRoute KlX hfX (by decide +kernel) rfl rfl rfl hX_findRoute ckX_findRoute (Or.inl (by decide)) ?_
  intro as X hl hr hX hp G hG
  match as, hl with
  | [a, b, c, d], _ => exact vX_findRoute (hr _ (by simp)) (hr _ (by simp)) (hr _ (by simp)) (hr _ (by simp)) hX hp hG
end
section
/-! THE STATE, PURE: bundles and bookings over the component's core fields (0..14, 16..19); plan as a function (pl_) -/
def sm_ (f : Int → Int) : Nat → Int
  | 0 => 0
  | n + 1 => sm_ f n + f n
/-- the core: what is no scratch -/
def co_ (X : St_) : St_ := fun f i => if f ≤ 14 ∨ (16 ≤ f ∧ f ≤ 19) then X f i else 0
theorem co_at (X : St_) {f : Nat} (h : f ≤ 14 ∨ (16 ≤ f ∧ f ≤ 19)) : co_ X f = X f := by
  funext i
  unfold co_
  rw [if_pos h]
theorem co_up (X : St_) {f : Nat} (i v : Int) (h : f ≤ 14 ∨ (16 ≤ f ∧ f ≤ 19)) : co_ (up_ X f i v) = up_ (co_ X) f i v := by
  funext g j
  unfold co_ up_
  by_cases hg : g ≤ 14 ∨ (16 ≤ g ∧ g ≤ 19)
  · simp only [if_pos hg]
  · have : g ≠ f := fun e => hg (e ▸ h)
    simp only [if_neg hg, this, false_and, if_false]
theorem co_scr (X : St_) {f : Nat} (i v : Int) (h : ¬ (f ≤ 14 ∨ (16 ≤ f ∧ f ≤ 19))) : co_ (up_ X f i v) = co_ X := by
  funext g j
  unfold co_ up_
  by_cases hg : g ≤ 14 ∨ (16 ≤ g ∧ g ≤ 19)
  · have : g ≠ f := fun e => h (e ▸ hg)
    simp only [if_pos hg, this, false_and, if_false]
  · simp only [if_neg hg]
theorem co_fr {S : List Nat} {X Y : St_} (h : fr_ S X Y) (hs : ∀ f ∈ S, ¬ (f ≤ 14 ∨ (16 ≤ f ∧ f ≤ 19))) : co_ Y = co_ X := by
  funext g j
  unfold co_
  by_cases hg : g ≤ 14 ∨ (16 ≤ g ∧ g ≤ 19)
  · rw [if_pos hg, if_pos hg, h g (fun q => hs g q hg)]
  · rw [if_neg hg, if_neg hg]
theorem co_get {X Y : St_} (h : co_ X = co_ Y) {f : Nat} (hf : f ≤ 14 ∨ (16 ≤ f ∧ f ≤ 19)) : X f = Y f := by
  rw [← co_at X hf, ← co_at Y hf, h]
theorem co_nt (X : St_) : nt_ (co_ X) = nt_ X := by
  funext f i
  unfold nt_
  by_cases hf : f ≤ 8
  · rw [if_pos hf, if_pos hf, co_at X (Or.inl (by omega))]
  · rw [if_neg hf, if_neg hf]
theorem co_co (X : St_) : co_ (co_ X) = co_ X := by
  funext f i
  unfold co_
  split <;> rfl
theorem up_up (X : St_) (f : Nat) (i v w : Int) : up_ (up_ X f i v) f i w = up_ X f i w := by
  funext g j
  unfold up_
  split <;> rfl
/-- ticks of a contact set -/
def sb_ (X : St_) (k beg n v : Int) : St_ := fun f j => if f = 8 ∧ 101 * k + beg ≤ j ∧ j < 101 * k + beg + n then v else X f j
theorem sb_ne (X : St_) (k beg n v : Int) {f : Nat} (h : f ≠ 8) : sb_ X k beg n v f = X f := by
  funext j
  unfold sb_
  rw [if_neg (fun q => h q.1)]
theorem sb_co (X : St_) (k beg n v : Int) : co_ (sb_ X k beg n v) = sb_ (co_ X) k beg n v := by
  funext g j
  unfold co_ sb_
  by_cases hg : g ≤ 14 ∨ (16 ≤ g ∧ g ≤ 19)
  · simp only [if_pos hg]
  · have : g ≠ 8 := fun e => hg (by omega)
    simp only [if_neg hg, this, false_and, if_false]
/-- when a booking comes in; where the bookings lead to; when it is ready there -/
def cb_ (X : St_) (b i : Int) : Int := X 18 (100 * b + i) + tk_ X (X 17 (100 * b + i)) (X 12 b) + X 7 (X 17 (100 * b + i))
def ln_ (X : St_) (b : Int) : Int := if X 16 b = 0 then X 10 b else X 3 (X 17 (100 * b + X 16 b - 1))
def rd_ (X : St_) (b : Int) : Int := if 0 < X 16 b ∧ X 19 0 < cb_ X b (X 16 b - 1) then cb_ X b (X 16 b - 1) else X 19 0
/-- the best route, if there is one -/
noncomputable def bf_ (X : St_) (size v t tgt : Int) : Option (List Int × Int) := @dite _ (∃ q : List Int × Int, bs_ X size v t tgt q.1 q.2) (Classical.propDecidable _) (fun h => some (Classical.choose h)) (fun _ => none)
theorem bf_some {X : St_} {size v t tgt : Int} {L : List Int} {a : Int} (h : bs_ X size v t tgt L a) : bf_ X size v t tgt = some (L, a) := by
  have he : ∃ q : List Int × Int, bs_ X size v t tgt q.1 q.2 := ⟨(L, a), h⟩
  unfold bf_
  rw [dif_pos he]
  have h1 := Classical.choose_spec he
  obtain ⟨e1, e2⟩ := bs_uniq h1 h
  congr 1
  exact Prod.ext e1 e2
theorem bf_none {X : St_} {size v t tgt : Int} (h : ∀ R c, R ≠ [] → R.length ≤ 5 → ¬ wk_ X size v t R tgt c) : bf_ X size v t tgt = none := by
  unfold bf_
  rw [dif_neg (fun q => h _ _ q.choose_spec.2.1 q.choose_spec.2.2.1 q.choose_spec.1)]
theorem bf_spec {X : St_} {size v t tgt : Int} {L : List Int} {a : Int} (h : bf_ X size v t tgt = some (L, a)) : bs_ X size v t tgt L a := by
  by_cases he : ∃ q : List Int × Int, bs_ X size v t tgt q.1 q.2
  · obtain ⟨q, hq⟩ := he
    rw [bf_some hq] at h
    cases h
    exact hq
  · unfold bf_ at h
    rw [dif_neg he] at h
    cases h
theorem bf_nt {X Y : St_} (h : nt_ X = nt_ Y) (size v t tgt : Int) : bf_ X size v t tgt = bf_ Y size v t tgt := by
  by_cases he : ∃ q : List Int × Int, bs_ X size v t tgt q.1 q.2
  · obtain ⟨q, hq⟩ := he
    rw [bf_some hq, bf_some (bs_nt h hq)]
  · have he2 : ¬ ∃ q : List Int × Int, bs_ Y size v t tgt q.1 q.2 := fun ⟨q, hq⟩ => he ⟨q, bs_nt h.symm hq⟩
    unfold bf_
    rw [dif_neg he, dif_neg he2]
/-- a booking more -/
def ap1_ (X : St_) (b k beg : Int) : St_ := sb_ (up_ (up_ (up_ X 17 (100 * b + X 16 b) k) 18 (100 * b + X 16 b) beg) 16 b (X 16 b + 1)) k beg (tk_ X k (X 12 b)) 1
def ap_ (b : Int) : List (Int × Int) → St_ → St_
  | [], X => X
  | q :: r, X => ap_ b r (ap1_ X b q.1 q.2)
/-- plan, as a function of the core -/
noncomputable def pl_ (X : St_) (b : Int) : St_ := match bf_ X (X 12 b) (ln_ X b) (rd_ X b) (X 11 b) with
  | some (L, a) => if a ≤ X 13 b then ap_ b (L.zip (bg_ X (X 12 b) (rd_ X b) L)) (up_ X 14 b 1) else up_ X 14 b 0
  | none => up_ X 14 b 0
/-- plan those that aren't routed -/
noncomputable def ry_ (X : St_) : Nat → St_
  | 0 => X
  | m + 1 => if ry_ X m 14 m = 0 then pl_ (ry_ X m) m else ry_ X m
/-- a bundle's bookings are sound -/
def nb_ (X : St_) (b i : Int) : Int := if i = 0 then X 10 b else X 3 (X 17 (100 * b + i - 1))
def hOK_ (X : St_) (b i : Int) : Prop := 0 ≤ X 17 (100 * b + i) ∧ X 17 (100 * b + i) < X 0 0 ∧ X 4 (X 17 (100 * b + i)) ≤ X 18 (100 * b + i) ∧ X 18 (100 * b + i) + tk_ X (X 17 (100 * b + i)) (X 12 b) ≤ X 5 (X 17 (100 * b + i)) ∧ X 2 (X 17 (100 * b + i)) = nb_ X b i ∧ X 2 (X 17 (100 * b + i)) ≠ X 11 b
def bOK_ (X : St_) (b : Int) : Prop := (0 ≤ X 10 b ∧ X 10 b < 6 ∧ 0 ≤ X 11 b ∧ X 11 b < 6 ∧ X 10 b ≠ X 11 b ∧ 1 ≤ X 12 b ∧ X 12 b ≤ 30) ∧ True ∧ (0 ≤ X 16 b ∧ X 16 b ≤ 60) ∧ ∀ i, 0 ≤ i → i < X 16 b → hOK_ X b i
def gOK_ (X : St_) : Prop := nOK_ X ∧ (∀ k, 0 ≤ k → k < 10 → X 1 k = 0 ∨ X 1 k = 1) ∧ (0 ≤ X 9 0 ∧ X 9 0 ≤ 10) ∧ (0 ≤ X 19 0 ∧ X 19 0 ≤ 20000) ∧ ∀ b, 0 ≤ b → b < X 9 0 → bOK_ X b
def bk_ (X : St_) (b i : Int) : Prop := 0 ≤ b ∧ b < X 9 0 ∧ 0 ≤ i ∧ i < X 16 b
def oc_ (X : St_) (k t : Int) : Prop := ∃ b i, bk_ X b i ∧ X 17 (100 * b + i) = k ∧ X 18 (100 * b + i) ≤ t ∧ t < X 18 (100 * b + i) + tk_ X k (X 12 b)
def BZ_ (X : St_) : Prop := ∀ k t, 0 ≤ k → k < 10 → 0 ≤ t → t ≤ 100 → (X 8 (101 * k + t) = 1 ∧ oc_ X k t) ∨ (X 8 (101 * k + t) = 0 ∧ ¬ oc_ X k t)
def DJ_ (X : St_) : Prop := ∀ b i c j, bk_ X b i → bk_ X c j → X 17 (100 * b + i) = X 17 (100 * c + j) → (b ≠ c ∨ i ≠ j) → X 18 (100 * b + i) + tk_ X (X 17 (100 * b + i)) (X 12 b) ≤ X 18 (100 * c + j) ∨ X 18 (100 * c + j) + tk_ X (X 17 (100 * c + j)) (X 12 c) ≤ X 18 (100 * b + i)
def J_ (X : St_) : Prop := gOK_ X ∧ BZ_ X ∧ DJ_ X
def cc_ (X : St_) : Int := sm_ (X 1) 10
def pn_ (X : St_) (b : Int) : Prop := ln_ X b ≠ X 11 b ∧ X 16 b ≤ 5 * cc_ X
def rOK_ (X : St_) (b : Int) : Prop := (X 14 b = 1 ∧ ln_ X b = X 11 b ∧ 0 < X 16 b ∧ X 16 b ≤ 5 * cc_ X + 5) ∨ (X 14 b = 0 ∧ pn_ X b)
/-- sound, but the bundles of E wait for their plan -/
def IV_ (X : St_) (E : Int → Prop) : Prop := J_ X ∧ ∀ b, 0 ≤ b → b < X 9 0 → (E b ∧ pn_ X b) ∨ (¬ E b ∧ rOK_ X b)
theorem ln_nb (X : St_) (b : Int) : ln_ X b = nb_ X b (X 16 b) := rfl
theorem sm_nonneg {f : Int → Int} : ∀ (n : Nat), (∀ k : Int, 0 ≤ k → k < n → 0 ≤ f k) → 0 ≤ sm_ f n := by
  intro n
  induction n with
  | zero => intro _; exact Int.le_refl _
  | succ n ih =>
    intro h
    have h1 := ih (fun k h0 h1 => h k h0 (by push_cast; omega))
    have h2 := h n (by omega) (by push_cast; omega)
    unfold sm_
    omega
theorem sm_le {f : Int → Int} {c : Int} : ∀ (n : Nat), (∀ k : Int, 0 ≤ k → k < n → f k ≤ c) → sm_ f n ≤ n * c := by
  intro n
  induction n with
  | zero => intro _; simp [sm_]
  | succ n ih =>
    intro h
    have h1 := ih (fun k h0 h1 => h k h0 (by push_cast; omega))
    have h2 := h n (by omega) (by push_cast; omega)
    unfold sm_
    push_cast
    rw [Int.add_mul]
    omega
theorem sm_congr {f g : Int → Int} : ∀ (n : Nat), (∀ k : Int, 0 ≤ k → k < n → f k = g k) → sm_ f n = sm_ g n := by
  intro n
  induction n with
  | zero => intro _; rfl
  | succ n ih =>
    intro h
    have h1 := ih (fun k h0 h1 => h k h0 (by push_cast; omega))
    have h2 := h n (by omega) (by push_cast; omega)
    unfold sm_
    rw [h1, h2]
theorem cc_bound {X : St_} (h : gOK_ X) : 0 ≤ cc_ X ∧ cc_ X ≤ 10 := by
  have h1 := h.2.1
  refine ⟨sm_nonneg 10 (fun k h0 h2 => ?_), ?_⟩
  · rcases h1 k h0 (by omega) with e | e <;> omega
  · have := sm_le (f := X 1) (c := 1) 10 (fun k h0 h2 => by rcases h1 k h0 (by omega) with e | e <;> omega)
    unfold cc_
    omega
theorem cb_bound {X : St_} (h : gOK_ X) {b i : Int} (hb : bk_ X b i) : 0 ≤ X 18 (100 * b + i) ∧ X 18 (100 * b + i) < 100 ∧ 0 ≤ cb_ X b i ∧ cb_ X b i ≤ 109 ∧ X 18 (100 * b + i) < cb_ X b i ∧ 1 ≤ tk_ X (X 17 (100 * b + i)) (X 12 b) ∧ tk_ X (X 17 (100 * b + i)) (X 12 b) ≤ 30 ∧ kOK_ X (X 17 (100 * b + i)) := by
  obtain ⟨h1, h2, h3, h4⟩ := hb
  have hB := h.2.2.2.2 b h1 h2
  obtain ⟨a1, a2, a3, a4, a5, a6⟩ := hB.2.2.2 i h3 h4
  have hk := h.1.2.2 _ a1 a2
  have hk' := hk
  obtain ⟨c1, c2, c3, c4, c5, c6, c7, c8, c9, c10, c11⟩ := hk'
  have hs := hB.1
  have t1 := tk_pos (X := X) (k := X 17 (100 * b + i)) (size := X 12 b) c8 hs.2.2.2.2.2.1
  have t2 := tk_le (X := X) (k := X 17 (100 * b + i)) (size := X 12 b) c8 hs.2.2.2.2.2.1
  unfold cb_
  exact ⟨by omega, by omega, by omega, by omega, by omega, t1, by omega, hk⟩
theorem rd_bound {X : St_} (h : gOK_ X) {b : Int} (h1 : 0 ≤ b) (h2 : b < X 9 0) : 0 ≤ rd_ X b ∧ rd_ X b ≤ 20000 ∧ X 19 0 ≤ rd_ X b := by
  have hn := h.2.2.2.1
  unfold rd_
  split
  · rename_i q
    have := cb_bound h (b := b) (i := X 16 b - 1) ⟨h1, h2, by omega, by omega⟩
    omega
  · omega
theorem ln_bound {X : St_} (h : gOK_ X) {b : Int} (h1 : 0 ≤ b) (h2 : b < X 9 0) : 0 ≤ ln_ X b ∧ ln_ X b < 6 := by
  have hB := h.2.2.2.2 b h1 h2
  unfold ln_
  split
  · exact ⟨hB.1.1, hB.1.2.1⟩
  · rename_i q
    obtain ⟨a1, a2, -⟩ := hB.2.2.2 (X 16 b - 1) (by have := hB.2.2.1; omega) (by omega)
    rw [show 100 * b + (X 16 b - 1) = 100 * b + X 16 b - 1 by omega] at a1 a2
    obtain ⟨-, -, c3, c4, -⟩ := h.1.2.2 _ a1 a2
    exact ⟨c3, c4⟩
end
section
/-! BOOKINGS, PURE: a booking more keeps the state sound -/
section RD
variable {X : St_} {b k beg : Int}
theorem ap1_ne {f : Nat} (h8 : f ≠ 8) (h16 : f ≠ 16) (h17 : f ≠ 17) (h18 : f ≠ 18) : ap1_ X b k beg f = X f := by
  unfold ap1_
  rw [sb_ne _ _ _ _ _ h8]
  funext j
  rw [up_ne _ _ _ _ h16, up_ne _ _ _ _ h18, up_ne _ _ _ _ h17]
theorem ap1_16 (c : Int) : ap1_ X b k beg 16 c = if c = b then X 16 b + 1 else X 16 c := by
  unfold ap1_
  rw [sb_ne _ _ _ _ _ (by decide)]
  simp [up_]
theorem ap1_17 (j : Int) : ap1_ X b k beg 17 j = if j = 100 * b + X 16 b then k else X 17 j := by
  unfold ap1_
  rw [sb_ne _ _ _ _ _ (by decide)]
  simp [up_]
theorem ap1_18 (j : Int) : ap1_ X b k beg 18 j = if j = 100 * b + X 16 b then beg else X 18 j := by
  unfold ap1_
  rw [sb_ne _ _ _ _ _ (by decide)]
  simp [up_]
theorem ap1_8 (j : Int) : ap1_ X b k beg 8 j = if 101 * k + beg ≤ j ∧ j < 101 * k + beg + tk_ X k (X 12 b) then 1 else X 8 j := by
  unfold ap1_ sb_
  simp [up_]
theorem ap1_tk (q size : Int) : tk_ (ap1_ X b k beg) q size = tk_ X q size := by
  unfold tk_
  rw [ap1_ne (by decide) (by decide) (by decide) (by decide)]
end RD
/-- Y has X's contacts, and bundle c with its bookings as X has it -/
def eb_ (X Y : St_) (c : Int) : Prop := (∀ f, f = 0 ∨ f = 2 ∨ f = 3 ∨ f = 4 ∨ f = 5 ∨ f = 6 ∨ f = 7 → Y f = X f) ∧ Y 10 c = X 10 c ∧ Y 11 c = X 11 c ∧ Y 12 c = X 12 c ∧ Y 16 c = X 16 c ∧ ∀ i, 0 ≤ i → i < X 16 c → Y 17 (100 * c + i) = X 17 (100 * c + i) ∧ Y 18 (100 * c + i) = X 18 (100 * c + i)
theorem eb_tk {X Y : St_} {c : Int} (h : eb_ X Y c) (k s : Int) : tk_ Y k s = tk_ X k s := by
  unfold tk_
  rw [h.1 6 (by simp)]
theorem eb_hOK {X Y : St_} {c i : Int} (h : eb_ X Y c) (h0 : 0 ≤ i) (h1 : i < X 16 c) (hk : hOK_ X c i) : hOK_ Y c i := by
  have ht := eb_tk h
  obtain ⟨hf, e10, e11, e12, e16, hh⟩ := h
  obtain ⟨q1, q2⟩ := hh i h0 h1
  have f0 := hf 0 (by simp)
  have f2 := hf 2 (by simp)
  have f3 := hf 3 (by simp)
  have f4 := hf 4 (by simp)
  have f5 := hf 5 (by simp)
  have hn : nb_ Y c i = nb_ X c i := by
    unfold nb_
    by_cases e : i = 0
    · rw [if_pos e, if_pos e, e10]
    · rw [if_neg e, if_neg e, f3, show 100 * c + i - 1 = 100 * c + (i - 1) by omega, (hh (i - 1) (by omega) (by omega)).1]
  unfold hOK_ at hk ⊢
  rw [q1, q2, f0, f4, f5, f2, ht, e12, hn, e11]
  exact hk
theorem eb_ln {X Y : St_} {c : Int} (h : eb_ X Y c) (h0 : 0 ≤ X 16 c) : ln_ Y c = ln_ X c := by
  obtain ⟨hf, e10, e11, e12, e16, hh⟩ := h
  unfold ln_
  rw [e16]
  by_cases e : X 16 c = 0
  · rw [if_pos e, if_pos e, e10]
  · rw [if_neg e, if_neg e, hf 3 (by simp), show 100 * c + X 16 c - 1 = 100 * c + (X 16 c - 1) by omega, (hh (X 16 c - 1) (by omega) (by omega)).1]
theorem eb_cb {X Y : St_} {c i : Int} (h : eb_ X Y c) (h0 : 0 ≤ i) (h1 : i < X 16 c) : cb_ Y c i = cb_ X c i := by
  have ht := eb_tk h
  obtain ⟨hf, e10, e11, e12, e16, hh⟩ := h
  obtain ⟨q1, q2⟩ := hh i h0 h1
  unfold cb_
  rw [q1, q2, ht, e12, hf 7 (by simp)]
theorem eb_bOK {X Y : St_} {c : Int} (h : eb_ X Y c) (hb : bOK_ X c) : bOK_ Y c := by
  have h' := h
  obtain ⟨hf, e10, e11, e12, e16, hh⟩ := h'
  obtain ⟨h1, -, h3, h4⟩ := hb
  unfold bOK_
  rw [e10, e11, e12, e16]
  exact ⟨h1, trivial, h3, fun i hi0 hi1 => eb_hOK h hi0 hi1 (h4 i hi0 hi1)⟩
theorem nOK_eb {X Y : St_} (hf : ∀ f, f = 0 ∨ f = 2 ∨ f = 3 ∨ f = 4 ∨ f = 5 ∨ f = 6 ∨ f = 7 → Y f = X f) (h : nOK_ X) : nOK_ Y := by
  unfold nOK_ kOK_ at *
  rw [hf 0 (by simp), hf 2 (by simp), hf 3 (by simp), hf 4 (by simp), hf 5 (by simp), hf 6 (by simp), hf 7 (by simp)]
  exact h
theorem ap1_con (X : St_) (b k beg : Int) : ∀ f, f = 0 ∨ f = 2 ∨ f = 3 ∨ f = 4 ∨ f = 5 ∨ f = 6 ∨ f = 7 → ap1_ X b k beg f = X f := by
  intro f hf
  exact ap1_ne (by omega) (by omega) (by omega) (by omega)
theorem ap1_eb {X : St_} (hg : gOK_ X) {b k beg : Int} (h1 : 0 ≤ b) (h2 : b < X 9 0) {c : Int} (hc0 : 0 ≤ c) (hc : c < X 9 0) (hne : c ≠ b) : eb_ X (ap1_ X b k beg) c := by
  have hB := (hg.2.2.2.2 b h1 h2).2.2.1
  have hC := (hg.2.2.2.2 c hc0 hc).2.2.1
  refine ⟨ap1_con X b k beg, ?_, ?_, ?_, ?_, fun i hi0 hi1 => ?_⟩
  · rw [ap1_ne (by decide) (by decide) (by decide) (by decide)]
  · rw [ap1_ne (by decide) (by decide) (by decide) (by decide)]
  · rw [ap1_ne (by decide) (by decide) (by decide) (by decide)]
  · rw [ap1_16, if_neg hne]
  · rw [ap1_17, ap1_18, if_neg (by omega), if_neg (by omega)]
    exact ⟨rfl, rfl⟩
/-- bundle b with its bookings, and one more -/
theorem ap1_bOK {X : St_} (hg : gOK_ X) {b k beg : Int} (h1 : 0 ≤ b) (h2 : b < X 9 0) (h16 : X 16 b ≤ 59) (hk0 : 0 ≤ k) (hk1 : k < X 0 0) (h4 : X 4 k ≤ beg) (h5 : beg + tk_ X k (X 12 b) ≤ X 5 k) (hf : X 2 k = ln_ X b) (hd : X 2 k ≠ X 11 b) : bOK_ (ap1_ X b k beg) b ∧ ln_ (ap1_ X b k beg) b = X 3 k := by
  have hB := hg.2.2.2.2 b h1 h2
  obtain ⟨b1, b2, b3, b4⟩ := hB
  have e : ∀ f, f ≠ 8 → f ≠ 16 → f ≠ 17 → f ≠ 18 → ap1_ X b k beg f = X f := fun f a1 a2 a3 a4 => ap1_ne a1 a2 a3 a4
  have e16 : ap1_ X b k beg 16 b = X 16 b + 1 := by rw [ap1_16, if_pos rfl]
  have hnb : ∀ i, 0 ≤ i → i ≤ X 16 b → nb_ (ap1_ X b k beg) b i = nb_ X b i := by
    intro i hi0 hi1
    unfold nb_
    by_cases ei : i = 0
    · rw [if_pos ei, if_pos ei, e 10 (by decide) (by decide) (by decide) (by decide)]
    · rw [if_neg ei, if_neg ei, e 3 (by decide) (by decide) (by decide) (by decide), ap1_17, if_neg (by omega)]
  refine ⟨⟨?_, ?_, ?_, ?_⟩, ?_⟩
  · rw [e 10 (by decide) (by decide) (by decide) (by decide), e 11 (by decide) (by decide) (by decide) (by decide), e 12 (by decide) (by decide) (by decide) (by decide)]
    exact b1
  · trivial
  · rw [e16]
    omega
  · intro i hi0 hi1
    rw [e16] at hi1
    unfold hOK_
    rw [hnb i hi0 (by omega), ap1_tk, e 0 (by decide) (by decide) (by decide) (by decide), e 2 (by decide) (by decide) (by decide) (by decide), e 4 (by decide) (by decide) (by decide) (by decide), e 5 (by decide) (by decide) (by decide) (by decide), e 11 (by decide) (by decide) (by decide) (by decide), e 12 (by decide) (by decide) (by decide) (by decide), ap1_17, ap1_18]
    by_cases ei : i = X 16 b
    · rw [ei, if_pos rfl, if_pos rfl]
      exact ⟨hk0, hk1, h4, h5, hf, hd⟩
    · rw [if_neg (by omega), if_neg (by omega)]
      exact b4 i hi0 (by omega)
  · unfold ln_
    rw [e16, if_neg (by omega), e 3 (by decide) (by decide) (by decide) (by decide), ap1_17, if_pos (by omega)]
theorem ap1_bk {X : St_} {b k beg c j : Int} (h1 : 0 ≤ b) (h2 : b < X 9 0) (h0 : 0 ≤ X 16 b) : bk_ (ap1_ X b k beg) c j ↔ bk_ X c j ∨ (c = b ∧ j = X 16 b) := by
  unfold bk_
  rw [ap1_ne (by decide) (by decide) (by decide) (by decide), ap1_16]
  by_cases e : c = b
  · subst e
    rw [if_pos rfl]
    omega
  · rw [if_neg e]
    omega
theorem ap1_J {X : St_} (hJ : J_ X) {b k beg : Int} (h1 : 0 ≤ b) (h2 : b < X 9 0) (h16 : X 16 b ≤ 59) (hk0 : 0 ≤ k) (hk1 : k < X 0 0) (h4 : X 4 k ≤ beg) (h5 : beg + tk_ X k (X 12 b) ≤ X 5 k) (hf : X 2 k = ln_ X b) (hd : X 2 k ≠ X 11 b) (hfree : ∀ t, beg ≤ t → t < beg + tk_ X k (X 12 b) → X 8 (101 * k + t) = 0) : J_ (ap1_ X b k beg) := by
  obtain ⟨hg, hBZ, hDJ⟩ := hJ
  have hg' := hg
  obtain ⟨hn, hca, h9, h19, hbs⟩ := hg'
  have hB := hbs b h1 h2
  have hb0 := hB.2.2.1
  have hkOK := hn.2.2 k hk0 hk1
  obtain ⟨c1, c2, c3, c4, c5, c6, c7, c8, c9, c10, c11⟩ := hkOK
  have ht1 := tk_pos (X := X) (k := k) (size := X 12 b) c8 hB.1.2.2.2.2.2.1
  have hn1 := hn.2.1
  have e : ∀ f, f ≠ 8 → f ≠ 16 → f ≠ 17 → f ≠ 18 → ap1_ X b k beg f = X f := fun f a1 a2 a3 a4 => ap1_ne a1 a2 a3 a4
  have e12 := e 12 (by decide) (by decide) (by decide) (by decide)
  have hbk : ∀ c j, bk_ (ap1_ X b k beg) c j ↔ bk_ X c j ∨ (c = b ∧ j = X 16 b) := fun c j => ap1_bk h1 h2 hb0.1
  have hold : ∀ c j, bk_ X c j → ap1_ X b k beg 17 (100 * c + j) = X 17 (100 * c + j) ∧ ap1_ X b k beg 18 (100 * c + j) = X 18 (100 * c + j) := by
    intro c j hc
    have := (hbs c hc.1 hc.2.1).2.2.1
    obtain ⟨d1, d2, d3, d4⟩ := hc
    rw [ap1_17, ap1_18]
    by_cases ec : c = b
    · subst ec
      rw [if_neg (by omega), if_neg (by omega)]
      exact ⟨rfl, rfl⟩
    · rw [if_neg (by omega), if_neg (by omega)]
      exact ⟨rfl, rfl⟩
  have hnew : ap1_ X b k beg 17 (100 * b + X 16 b) = k ∧ ap1_ X b k beg 18 (100 * b + X 16 b) = beg := by
    rw [ap1_17, ap1_18, if_pos rfl, if_pos rfl]
    exact ⟨rfl, rfl⟩
  have hoc : ∀ q t, oc_ (ap1_ X b k beg) q t ↔ oc_ X q t ∨ (q = k ∧ beg ≤ t ∧ t < beg + tk_ X k (X 12 b)) := by
    intro q t
    constructor
    · rintro ⟨c, j, hcj, hq, ht1, ht2⟩
      rw [ap1_tk, e12] at ht2
      rcases (hbk c j).mp hcj with hcj | ⟨rfl, rfl⟩
      · rw [(hold c j hcj).1] at hq
        rw [(hold c j hcj).2] at ht1 ht2
        exact Or.inl ⟨c, j, hcj, hq, ht1, ht2⟩
      · rw [hnew.1] at hq
        rw [hnew.2] at ht1 ht2
        subst hq
        exact Or.inr ⟨rfl, ht1, ht2⟩
    · rintro (⟨c, j, hcj, hq, ht1, ht2⟩ | ⟨rfl, ht1, ht2⟩)
      · refine ⟨c, j, (hbk c j).mpr (Or.inl hcj), ?_, ?_, ?_⟩
        · rw [(hold c j hcj).1]; exact hq
        · rw [(hold c j hcj).2]; exact ht1
        · rw [(hold c j hcj).2, ap1_tk, e12]; exact ht2
      · refine ⟨b, X 16 b, (hbk _ _).mpr (Or.inr ⟨rfl, rfl⟩), hnew.1, ?_, ?_⟩
        · rw [hnew.2]; exact ht1
        · rw [hnew.2, ap1_tk, e12]; exact ht2
  refine ⟨⟨nOK_eb (ap1_con X b k beg) hn, ?_, ?_, ?_, ?_⟩, ?_, ?_⟩
  · rw [e 1 (by decide) (by decide) (by decide) (by decide)]
    exact hca
  · rw [e 9 (by decide) (by decide) (by decide) (by decide)]
    exact h9
  · rw [e 19 (by decide) (by decide) (by decide) (by decide)]
    exact h19
  · rw [e 9 (by decide) (by decide) (by decide) (by decide)]
    intro c hc0 hc1
    by_cases ec : c = b
    · subst ec
      exact (ap1_bOK hg h1 h2 h16 hk0 hk1 h4 h5 hf hd).1
    · exact eb_bOK (ap1_eb hg h1 h2 hc0 hc1 ec) (hbs c hc0 hc1)
  · intro q t hq0 hq1 ht0 ht1
    rw [hoc, ap1_8]
    by_cases hin : 101 * k + beg ≤ 101 * q + t ∧ 101 * q + t < 101 * k + beg + tk_ X k (X 12 b)
    · rw [if_pos hin]
      have eq : q = k := by omega
      subst eq
      exact Or.inl ⟨rfl, Or.inr ⟨rfl, by omega, by omega⟩⟩
    · rw [if_neg hin]
      rcases hBZ q t hq0 hq1 ht0 ht1 with ⟨a, o⟩ | ⟨a, o⟩
      · exact Or.inl ⟨a, Or.inl o⟩
      · refine Or.inr ⟨a, ?_⟩
        rintro (o2 | ⟨rfl, o3, o4⟩)
        · exact o o2
        · omega
  · have key : ∀ c j, bk_ X c j → X 17 (100 * c + j) = k → X 18 (100 * c + j) + tk_ X k (X 12 c) ≤ beg ∨ beg + tk_ X k (X 12 b) ≤ X 18 (100 * c + j) := by
      intro c j hcj hq
      have hcb := cb_bound hg hcj
      obtain ⟨r1, r2, r3, r4, r5, r6⟩ := (hbs c hcj.1 hcj.2.1).2.2.2 j hcj.2.2.1 hcj.2.2.2
      rw [hq] at hcb r4
      by_cases s1 : X 18 (100 * c + j) + tk_ X k (X 12 c) ≤ beg
      · exact Or.inl s1
      · by_cases s2 : beg + tk_ X k (X 12 b) ≤ X 18 (100 * c + j)
        · exact Or.inr s2
        · exfalso
          have hbusy : ∀ t, X 18 (100 * c + j) ≤ t → t < X 18 (100 * c + j) + tk_ X k (X 12 c) → beg ≤ t → t < beg + tk_ X k (X 12 b) → False := by
            intro t u1 u2 u3 u4
            have z := hfree t u3 u4
            rcases hBZ k t hk0 (by omega) (by omega) (by omega) with ⟨a, o⟩ | ⟨a, o⟩
            · omega
            · exact o ⟨c, j, hcj, hq, u1, u2⟩
          by_cases s3 : beg ≤ X 18 (100 * c + j)
          · exact hbusy (X 18 (100 * c + j)) (by omega) (by omega) (by omega) (by omega)
          · exact hbusy beg (by omega) (by omega) (by omega) (by omega)
    intro c i d j hci hdj hsame hne
    rw [ap1_tk, ap1_tk, e12]
    rcases (hbk c i).mp hci with hc' | ⟨rfl, rfl⟩ <;> rcases (hbk d j).mp hdj with hd' | ⟨rfl, rfl⟩
    · rw [(hold c i hc').1, (hold d j hd').1] at hsame
      rw [(hold c i hc').1, (hold d j hd').1, (hold c i hc').2, (hold d j hd').2]
      exact hDJ c i d j hc' hd' hsame hne
    · rw [(hold c i hc').1, hnew.1] at hsame
      rw [(hold c i hc').1, hnew.1, (hold c i hc').2, hnew.2, hsame]
      exact key c i hc' hsame
    · rw [(hold d j hd').1, hnew.1] at hsame
      rw [(hold d j hd').1, hnew.1, (hold d j hd').2, hnew.2, ← hsame]
      exact (key d j hd' hsame.symm).symm
    · omega
end
section
/-! THE BEST ROUTE, PURE: no contact twice, no middle node the target; its bookings keep the state sound; plan keeps it -/
theorem wk_cut {X : St_} {size : Int} (hX : nOK_ X) (hs : 1 ≤ size) {v t v' a k : Int} {A B C : List Int} (h : wk_ X size v t (A ++ k :: (B ++ k :: C)) v' a) : ∃ a0, a0 ≤ a ∧ wk_ X size v t (A ++ k :: C) v' a0 := by
  obtain ⟨v1, t1, h1, h2, h3, h4, h5, h6⟩ := (wk_app _ _ _ _ _ _).mp h
  obtain ⟨v2, t2, g1, g2, g3, g4, g5, g6⟩ := (wk_app _ _ _ _ _ _).mp h6
  have hb := (wk_len hX hs B g1).1
  have hk := hX.2.2 k h2 h3
  rcases cin_bound (t := t1) hk hs with e | ⟨-, -, -, -, e, -⟩
  · omega
  · have hm := cin_mono (t := t1) (t' := t2) hk hs (by omega)
    obtain ⟨a0, ha, hw⟩ := wk_mono hX hs C hm g6
    exact ⟨a0, ha, (wk_app _ _ _ _ _ _).mpr ⟨v1, t1, h1, h2, h3, h4, h5, hw⟩⟩
theorem nodup_split : ∀ (L : List Int), ¬ L.Nodup → ∃ A k B C, L = A ++ k :: (B ++ k :: C) := by
  intro L
  induction L with
  | nil => intro h; exact absurd List.nodup_nil h
  | cons x xs ih =>
    intro h
    by_cases hx : x ∈ xs
    · obtain ⟨B, C, e⟩ := List.append_of_mem hx
      exact ⟨[], x, B, C, by rw [e]; rfl⟩
    · have : ¬ xs.Nodup := fun q => h (List.nodup_cons.mpr ⟨hx, q⟩)
      obtain ⟨A, k, B, C, e⟩ := ih this
      exact ⟨x :: A, k, B, C, by rw [e]; rfl⟩
theorem wk_nodup {X : St_} {size : Int} (hX : nOK_ X) (hs : 1 ≤ size) {v t v' : Int} : ∀ (n : Nat) (L : List Int) (a : Int), L.length ≤ n → wk_ X size v t L v' a → ¬ L.Nodup → ∃ L0 a0, wk_ X size v t L0 v' a0 ∧ a0 ≤ a ∧ L0.Nodup ∧ L0.length < L.length ∧ L0 ≠ [] := by
  intro n
  induction n with
  | zero =>
    intro L a hl hw hn
    cases L with
    | nil => exact absurd List.nodup_nil hn
    | cons x xs => simp at hl
  | succ n ih =>
    intro L a hl hw hn
    obtain ⟨A, k, B, C, e⟩ := nodup_split L hn
    subst e
    obtain ⟨a0, h1, h2⟩ := wk_cut hX hs hw
    have hlen : (A ++ k :: C).length < (A ++ k :: (B ++ k :: C)).length := by simp; omega
    by_cases hd : (A ++ k :: C).Nodup
    · exact ⟨_, a0, h2, h1, hd, hlen, by simp⟩
    · obtain ⟨L0, a1, g1, g2, g3, g4, g5⟩ := ih (A ++ k :: C) a0 (by omega) h2 hd
      exact ⟨L0, a1, g1, by omega, g3, by omega, g5⟩
theorem bs_nodup {X : St_} {size v t tgt : Int} {L : List Int} {a : Int} (hX : nOK_ X) (hs : 1 ≤ size) (h : bs_ X size v t tgt L a) : L.Nodup := by
  apply Classical.byContradiction
  intro hn
  obtain ⟨L0, a0, g1, g2, g3, g4, g5⟩ := wk_nodup hX hs L.length L a (Nat.le_refl _) h.1 hn
  have h5 := h.2.2.1
  rcases h.2.2.2 L0 a0 g5 (by omega) g1 with q | ⟨q, q1 | ⟨q1, -⟩⟩ <;> omega
theorem bs_mid {X : St_} {size v t tgt : Int} {L : List Int} {a : Int} (hX : nOK_ X) (hs : 1 ≤ size) (hv : v ≠ tgt) (h : bs_ X size v t tgt L a) {P R : List Int} {k v1 t1 : Int} (e : L = P ++ k :: R) (hP : wk_ X size v t P v1 t1) : v1 ≠ tgt := by
  intro q
  subst q
  cases P with
  | nil => exact hv hP.1.symm
  | cons x xs =>
    have hw := h.1
    rw [e] at hw
    obtain ⟨v2, t2, g1, g2⟩ := (wk_app _ _ _ _ _ _).mp hw
    obtain ⟨e1, e2⟩ := wk_det _ hP g1
    subst e2
    have hl := (wk_len hX hs _ g2).1
    have h5 := h.2.2.1
    rw [e] at h5
    simp only [List.length_append, List.length_cons] at h5 hl
    rcases h.2.2.2 (x :: xs) t1 (by simp) (by simp; omega) hP with q | ⟨q, -⟩
    · push_cast at hl
      omega
    · push_cast at hl
      omega
/-- what a route's bookings leave alone -/
theorem ap_ne {b : Int} : ∀ (l : List (Int × Int)) (Z : St_) {f : Nat}, f ≠ 8 → f ≠ 16 → f ≠ 17 → f ≠ 18 → ap_ b l Z f = Z f := by
  intro l
  induction l with
  | nil => intro Z f _ _ _ _; rfl
  | cons q r ih =>
    intro Z f h1 h2 h3 h4
    show ap_ b r (ap1_ Z b q.1 q.2) f = Z f
    rw [ih _ h1 h2 h3 h4, ap1_ne h1 h2 h3 h4]
theorem eb_trans {X Y Z : St_} {c : Int} (h : eb_ X Y c) (h2 : eb_ Y Z c) : eb_ X Z c := by
  obtain ⟨a1, a2, a3, a4, a5, a6⟩ := h
  obtain ⟨b1, b2, b3, b4, b5, b6⟩ := h2
  refine ⟨fun f hf => (b1 f hf).trans (a1 f hf), by omega, by omega, by omega, by omega, fun i h0 h1 => ?_⟩
  obtain ⟨c1, c2⟩ := a6 i h0 h1
  obtain ⟨d1, d2⟩ := b6 i h0 (by omega)
  exact ⟨by omega, by omega⟩
theorem eb_refl (X : St_) (c : Int) : eb_ X X c := ⟨fun _ _ => rfl, rfl, rfl, rfl, rfl, fun _ _ _ => ⟨rfl, rfl⟩⟩
theorem ap_J {N : St_} {size tgt a b : Int} (hN : nOK_ N) (hs : 1 ≤ size) : ∀ (L : List Int) (Z : St_) (t : Int), J_ Z → 0 ≤ b → b < Z 9 0 → Z 16 b + L.length ≤ 60 → (∀ f, f = 0 ∨ f = 2 ∨ f = 3 ∨ f = 4 ∨ f = 5 ∨ f = 6 ∨ f = 7 → Z f = N f) → Z 12 b = size →
    (∀ k ∈ L, ∀ u, 0 ≤ u → u ≤ 100 → Z 8 (101 * k + u) = N 8 (101 * k + u)) → L.Nodup → wk_ N size (ln_ Z b) t L tgt a → (∀ P k R v1 t1, L = P ++ k :: R → wk_ N size (ln_ Z b) t P v1 t1 → v1 ≠ Z 11 b) →
      J_ (ap_ b (L.zip (bg_ N size t L)) Z) ∧ ln_ (ap_ b (L.zip (bg_ N size t L)) Z) b = tgt ∧ ap_ b (L.zip (bg_ N size t L)) Z 16 b = Z 16 b + L.length ∧ ∀ c, 0 ≤ c → c < Z 9 0 → c ≠ b → eb_ Z (ap_ b (L.zip (bg_ N size t L)) Z) c := by
  intro L
  induction L with
  | nil =>
    intro Z t hJ h0 h1 h16 hf h12 hbz hnd hw hmid
    exact ⟨hJ, hw.1.symm, by simp [ap_], fun c _ _ _ => eb_refl _ _⟩
  | cons k ks ih =>
    intro Z t hJ h0 h1 h16 hf h12 hbz hnd hw hmid
    obtain ⟨w1, w2, w3, w4, w5⟩ := hw
    have hk := hN.2.2 k w1 w2
    have hn1 := hN.2.1
    rcases cin_bound (t := t) hk hs with e | ⟨e1, e2, e3, e4, e5, e6, e7⟩
    · omega
    · obtain ⟨o1, o2, o3, o4⟩ := e3
      have hk' := hk
      obtain ⟨c1, c2, c3, c4, c5, c6, c7, c8, c9, c10, c11⟩ := hk'
      have htk : ∀ q s, tk_ Z q s = tk_ N q s := fun q s => by unfold tk_; rw [hf 6 (by simp)]
      rw [List.length_cons] at h16
      push_cast at h16
      have hJ1 : J_ (ap1_ Z b k (fb_ N k t (tk_ N k size))) := by
        refine ap1_J hJ h0 h1 (by omega) w1 ?_ ?_ ?_ ?_ ?_ ?_
        · rw [hf 0 (by simp)]; exact w2
        · rw [hf 4 (by simp)]; exact o2
        · rw [hf 5 (by simp), htk, h12]; exact o3
        · rw [hf 2 (by simp)]; exact w3
        · rw [hf 2 (by simp), w3]
          exact hmid [] k ks _ t rfl ⟨rfl, rfl⟩
        · intro u hu1 hu2
          rw [htk, h12] at hu2
          rw [hbz k List.mem_cons_self u (by omega) (by omega)]
          exact o4 u hu1 hu2
      have hln : ln_ (ap1_ Z b k (fb_ N k t (tk_ N k size))) b = N 3 k := by
        rw [(ap1_bOK hJ.1 h0 h1 (by omega) w1 (by rw [hf 0 (by simp)]; exact w2) (by rw [hf 4 (by simp)]; exact o2) (by rw [hf 5 (by simp), htk, h12]; exact o3) (by rw [hf 2 (by simp)]; exact w3) (by rw [hf 2 (by simp), w3]; exact hmid [] k ks _ t rfl ⟨rfl, rfl⟩)).2, hf 3 (by simp)]
      have e16 : ap1_ Z b k (fb_ N k t (tk_ N k size)) 16 b = Z 16 b + 1 := by rw [ap1_16, if_pos rfl]
      have e9 : ap1_ Z b k (fb_ N k t (tk_ N k size)) 9 0 = Z 9 0 := by rw [ap1_ne (by decide) (by decide) (by decide) (by decide)]
      have hnd' := List.nodup_cons.mp hnd
      have q := ih (ap1_ Z b k (fb_ N k t (tk_ N k size))) (cin_ N k t size) hJ1 h0 (by rw [e9]; exact h1) (by rw [e16]; omega) (fun f hf' => by rw [ap1_con _ _ _ _ f hf']; exact hf f hf') (by rw [ap1_ne (by decide) (by decide) (by decide) (by decide)]; exact h12) ?_ hnd'.2 (by rw [hln]; exact w5) ?_
      · obtain ⟨q1, q2, q3, q4⟩ := q
        refine ⟨q1, q2, ?_, fun c hc0 hc1 hcb => ?_⟩
        · show ap_ b (ks.zip _) _ 16 b = _
          rw [q3, e16, List.length_cons]
          push_cast
          omega
        · exact eb_trans (ap1_eb hJ.1 h0 h1 hc0 hc1 hcb) (q4 c hc0 (by rw [e9]; exact hc1) hcb)
      · intro k' hk' u hu0 hu1
        have hne : k' ≠ k := fun e => hnd'.1 (e ▸ hk')
        rw [ap1_8, htk, h12, if_neg (by omega)]
        exact hbz k' (List.mem_cons_of_mem _ hk') u hu0 hu1
      · intro P q R v1 t1 e hP
        rw [ap1_ne (by decide) (by decide) (by decide) (by decide)]
        rw [hln] at hP
        exact hmid (k :: P) q R v1 t1 (by rw [e]; rfl) ⟨w1, w2, w3, w4, hP⟩
theorem up14_eb (X : St_) (b v c : Int) : eb_ X (up_ X 14 b v) c := by
  refine ⟨fun f hf => ?_, ?_, ?_, ?_, ?_, fun i _ _ => ⟨?_, ?_⟩⟩
  · funext j; exact up_ne _ _ _ _ (by omega)
  all_goals exact up_ne _ _ _ _ (by decide)
theorem oc_congr {X Y : St_} (hf : ∀ f, f = 6 ∨ f = 9 ∨ f = 12 ∨ f = 16 ∨ f = 17 ∨ f = 18 → Y f = X f) (k t : Int) : oc_ Y k t ↔ oc_ X k t := by
  unfold oc_ bk_ tk_
  rw [hf 6 (by simp), hf 9 (by simp), hf 12 (by simp), hf 16 (by simp), hf 17 (by simp), hf 18 (by simp)]
theorem DJ_congr {X Y : St_} (hf : ∀ f, f = 6 ∨ f = 9 ∨ f = 12 ∨ f = 16 ∨ f = 17 ∨ f = 18 → Y f = X f) (h : DJ_ X) : DJ_ Y := by
  unfold DJ_ bk_ tk_ at *
  rw [hf 6 (by simp), hf 9 (by simp), hf 12 (by simp), hf 16 (by simp), hf 17 (by simp), hf 18 (by simp)]
  exact h
theorem up14_J {X : St_} (hJ : J_ X) (b : Int) {v : Int} (hv : v = 0 ∨ v = 1) : J_ (up_ X 14 b v) := by
  obtain ⟨⟨hn, hca, h9, h19, hbs⟩, hBZ, hDJ⟩ := hJ
  have e : ∀ f, f ≠ 14 → up_ X 14 b v f = X f := fun f h => by funext j; exact up_ne _ _ _ _ h
  refine ⟨⟨nOK_eb (up14_eb X b v 0).1 hn, ?_, ?_, ?_, ?_⟩, ?_, ?_⟩
  · rw [e 1 (by decide)]; exact hca
  · rw [e 9 (by decide)]; exact h9
  · rw [e 19 (by decide)]; exact h19
  · rw [e 9 (by decide)]
    intro c h0 h1
    exact eb_bOK (up14_eb X b v c) (hbs c h0 h1)
  · intro k t a1 a2 a3 a4
    rw [oc_congr (X := X) (fun f hf => e f (by omega)), e 8 (by decide)]
    exact hBZ k t a1 a2 a3 a4
  · exact DJ_congr (fun f hf => e f (by omega)) hDJ
/-- plan keeps the state sound; its bundle waits no more -/
theorem pl_IV {X : St_} {E : Int → Prop} (h : IV_ X E) {b : Int} (h0 : 0 ≤ b) (h1 : b < X 9 0) (hp : pn_ X b) : IV_ (pl_ X b) (fun c => E c ∧ c ≠ b) ∧ (∀ f, f ≠ 8 → f ≠ 14 → f ≠ 16 → f ≠ 17 → f ≠ 18 → pl_ X b f = X f) ∧ (∀ c, c ≠ b → pl_ X b 14 c = X 14 c) ∧ ∀ c, 0 ≤ c → c < X 9 0 → c ≠ b → eb_ X (pl_ X b) c := by
  obtain ⟨hJ, hE⟩ := h
  have hcc := cc_bound hJ.1
  have hB := hJ.1.2.2.2.2 b h0 h1
  have fin : ∀ (Y : St_), J_ Y → (∀ f, f ≠ 8 → f ≠ 14 → f ≠ 16 → f ≠ 17 → f ≠ 18 → Y f = X f) → (∀ c, c ≠ b → Y 14 c = X 14 c) → (∀ c, 0 ≤ c → c < X 9 0 → c ≠ b → eb_ X Y c) → rOK_ Y b →
      IV_ Y (fun c => E c ∧ c ≠ b) ∧ (∀ f, f ≠ 8 → f ≠ 14 → f ≠ 16 → f ≠ 17 → f ≠ 18 → Y f = X f) ∧ (∀ c, c ≠ b → Y 14 c = X 14 c) ∧ ∀ c, 0 ≤ c → c < X 9 0 → c ≠ b → eb_ X Y c := by
    intro Y hJY hf h14 heb hr
    refine ⟨⟨hJY, fun c hc0 hc1 => ?_⟩, hf, h14, heb⟩
    rw [hf 9 (by decide) (by decide) (by decide) (by decide) (by decide)] at hc1
    by_cases ec : c = b
    · subst ec
      exact Or.inr ⟨fun q => q.2 rfl, hr⟩
    · have hl := eb_ln (heb c hc0 hc1 ec) (hJ.1.2.2.2.2 c hc0 hc1).2.2.1.1
      have e16 := (heb c hc0 hc1 ec).2.2.2.2.1
      have e11 := (heb c hc0 hc1 ec).2.2.1
      have ecc : cc_ Y = cc_ X := by unfold cc_; rw [hf 1 (by decide) (by decide) (by decide) (by decide) (by decide)]
      unfold rOK_ pn_
      rw [hl, e16, e11, ecc, h14 c ec]
      rcases hE c hc0 hc1 with ⟨q1, q2⟩ | ⟨q1, q2⟩
      · exact Or.inl ⟨⟨q1, ec⟩, q2⟩
      · exact Or.inr ⟨fun z => q1 z.1, q2⟩
  have stuck : rOK_ (up_ X 14 b 0) b := by
    right
    refine ⟨up_at _ _ _ _, ?_, ?_⟩
    · rw [eb_ln (up14_eb X b 0 b) hB.2.2.1.1, up_ne _ _ _ _ (by decide)]
      exact hp.1
    · rw [up_ne _ _ _ _ (by decide)]
      have : cc_ (up_ X 14 b 0) = cc_ X := by
        unfold cc_
        congr 1
      rw [this]
      exact hp.2
  have hstuck := fin (up_ X 14 b 0) (up14_J hJ b (Or.inl rfl)) (fun f _ h14 _ _ _ => by funext j; exact up_ne _ _ _ _ h14) (fun c hc => up_nei _ _ _ _ hc) (fun c _ _ _ => up14_eb X b 0 c) stuck
  unfold pl_
  cases hbf : bf_ X (X 12 b) (ln_ X b) (rd_ X b) (X 11 b) with
  | none => exact hstuck
  | some q =>
    obtain ⟨L, a⟩ := q
    have hbs := bf_spec hbf
    simp only
    by_cases hla : a ≤ X 13 b
    · rw [if_pos hla]
      have hs := hB.1.2.2.2.2.2.1
      have hl5 := hbs.2.2.1
      have hlpos : 0 < L.length := List.length_pos_iff.mpr hbs.2.1
      have hln14 : ln_ (up_ X 14 b 1) b = ln_ X b := eb_ln (up14_eb X b 1 b) hB.2.2.1.1
      have hq := ap_J (N := X) (tgt := X 11 b) (a := a) (size := X 12 b) hJ.1.1 hs L (up_ X 14 b 1) (rd_ X b) (up14_J hJ b (Or.inr rfl)) h0 (by rw [up_ne _ _ _ _ (by decide)]; exact h1) (by rw [up_ne _ _ _ _ (by decide)]; have := hp.2; omega) (up14_eb X b 1 b).1 (up_ne _ _ _ _ (by decide))
        (fun k _ u _ _ => up_ne _ _ _ _ (by decide)) (bs_nodup hJ.1.1 hs hbs) (by rw [hln14]; exact hbs.1) (by
          intro P k R v1 t1 e hP
          rw [up_ne _ _ _ _ (by decide)]
          rw [hln14] at hP
          exact bs_mid hJ.1.1 hs hp.1 hbs e hP)
      obtain ⟨q1, q2, q3, q4⟩ := hq
      refine fin _ q1 ?_ ?_ ?_ ?_
      · intro f f8 f14 f16 f17 f18
        rw [ap_ne _ _ f8 f16 f17 f18]
        funext j
        exact up_ne _ _ _ _ f14
      · intro c hc
        rw [ap_ne _ _ (by decide) (by decide) (by decide) (by decide)]
        exact up_nei _ _ _ _ hc
      · intro c hc0 hc1 hcb
        exact eb_trans (up14_eb X b 1 c) (q4 c hc0 (by rw [up_ne _ _ _ _ (by decide)]; exact hc1) hcb)
      · left
        have ecc : cc_ (ap_ b (L.zip (bg_ X (X 12 b) (rd_ X b) L)) (up_ X 14 b 1)) = cc_ X := by
          unfold cc_
          rw [ap_ne _ _ (by decide) (by decide) (by decide) (by decide)]
          congr 1
        rw [ecc, q2, q3, ap_ne _ _ (by decide) (by decide) (by decide) (by decide), up_at, ap_ne _ _ (by decide) (by decide) (by decide) (by decide), up_ne _ _ _ _ (by decide), up_ne _ _ _ _ (by decide)]
        have := hp.2
        have := hB.2.2.1
        exact ⟨rfl, rfl, by omega, by omega⟩
    · rw [if_neg hla]
      exact hstuck
end
section
/-! THE COMPONENT's PLAN: setBusy, comesInBy, lastNode, plan, retry -/
def pX_setBusy (k begin ticks value : Int) (_ : St_) : Prop := 0 ≤ k ∧ k < 10 ∧ 0 ≤ begin ∧ 0 ≤ ticks ∧ begin + ticks ≤ 100 ∧ (value = 0 ∨ value = 1)
def qX_setBusy (k begin ticks value : Int) (X : St_) (_ : Int) (Y : St_) : Prop := Y = sb_ X k begin ticks value
def csX_setBusy : Cs_ := (4, false, 0, (fun as X => match as with
  | [a, b, c, d] => pX_setBusy a b c d X
  | _ => False), (fun as X z Y => match as with
  | [a, b, c, d] => qX_setBusy a b c d X z Y
  | _ => False))
def mX_setBusy : Mt_ := (LX, [], 0, EX_setBusy)
set_option maxRecDepth 100000 in
theorem sX_setBusy_0 {Rt : Int → St_ → Prop} {G : Nat → Lo_ → List Vl_ → St_ → Prop} (hG : Clo_ mX_setBusy Rt G) {X : St_} {k begin ticks value : Int} (h : G 3 [some (.inr 25), some (.inl k), some (.inl begin), some (.inl ticks), some (.inl value), some (.inl begin)] [] X) : G 0 [some (.inr 25), some (.inl k), some (.inl begin), some (.inl ticks), some (.inl value)] [] X := run_ hG [(3, 6)] 2 0 _ _ X h
set_option maxRecDepth 100000 in
theorem sX_setBusy_3 {Rt : Int → St_ → Prop} {G : Nat → Lo_ → List Vl_ → St_ → Prop} (hG : Clo_ mX_setBusy Rt G) {X : St_} {k begin ticks value t : Int} (h : zR (begin + ticks) ∧ (begin + ticks ≤ t → Rt 0 X) ∧ (t < begin + ticks → zR (101 * k) ∧ zR ((101 * k) + t) ∧ 0 ≤ (101 * k) + t ∧ (101 * k) + t < 1010 ∧ (value = 0 ∨ value = 1) ∧ zR (t + 1) ∧ G 3 [some (.inr 25), some (.inl k), some (.inl begin), some (.inl ticks), some (.inl value), some (.inl (t + 1))] [] (up_ X 8 ((101 * k) + t) value))) : G 3 [some (.inr 25), some (.inl k), some (.inl begin), some (.inl ticks), some (.inl value), some (.inl t)] [] X := run_ hG [(3, 6)] 16 3 _ _ X h
theorem lX_setBusy {k begin ticks value : Int} {X : St_} (hp : pX_setBusy k begin ticks value X) {G : Nat → Lo_ → List Vl_ → St_ → Prop} (hG : Clo_ mX_setBusy (qX_setBusy k begin ticks value X) G) :
    ∀ (d : Nat) (t : Int), begin + ticks - t ≤ d → begin ≤ t → t ≤ begin + ticks → G 3 [some (.inr 25), some (.inl k), some (.inl begin), some (.inl ticks), some (.inl value), some (.inl t)] [] (sb_ X k begin (t - begin) value) := by
  obtain ⟨h1, h2, h3, h4, h5, h6⟩ := hp
  intro d
  induction d with
  | zero =>
    intro t hd h0 h7
    refine sX_setBusy_3 hG ⟨by omega, fun h => ?_, fun h => by omega⟩
    rw [show t - begin = ticks by omega]
    rfl
  | succ d ih =>
    intro t hd h0 h7
    refine sX_setBusy_3 hG ⟨by omega, fun h => ?_, fun h => ⟨by omega, by omega, by omega, by omega, h6, by omega, ?_⟩⟩
    · rw [show t - begin = ticks by omega]
      rfl
    · have q := ih (t + 1) (by omega) (by omega) (by omega)
      have e : up_ (sb_ X k begin (t - begin) value) 8 (101 * k + t) value = sb_ X k begin (t + 1 - begin) value := by
        funext f j
        unfold up_ sb_
        by_cases hf : f = 8
        · by_cases hj : j = 101 * k + t
          · rw [if_pos ⟨hf, hj⟩, if_pos ⟨hf, by omega, by omega⟩]
          · rw [if_neg (fun q => hj q.2)]
            by_cases hin : 101 * k + begin ≤ j ∧ j < 101 * k + begin + (t - begin)
            · rw [if_pos ⟨hf, hin⟩, if_pos ⟨hf, by omega, by omega⟩]
            · rw [if_neg (fun q => hin q.2), if_neg (fun q => hin (by omega))]
        · rw [if_neg (fun q => hf q.1), if_neg (fun q => hf q.1), if_neg (fun q => hf q.1)]
      rw [e]
      exact q
theorem vX_setBusy {k begin ticks value : Int} {X : St_} (r1 : zR k) (r2 : zR begin) (r3 : zR ticks) (r4 : zR value) (hX : rgX_ X) (hp : pX_setBusy k begin ticks value X) {G : Nat → Lo_ → List Vl_ → St_ → Prop} (hG : Clo_ mX_setBusy (qX_setBusy k begin ticks value X) G) : G 0 [some (.inr 25), some (.inl k), some (.inl begin), some (.inl ticks), some (.inl value)] [] X := by
  have q := lX_setBusy hp hG ticks.toNat begin (by have := hp.2.2.2.1; omega) (by omega) (by have := hp.2.2.2.1; omega)
  have e : sb_ X k begin (begin - begin) value = X := by
    funext f j
    unfold sb_
    rw [if_neg (by omega)]
  rw [e] at q
  exact sX_setBusy_0 hG q
theorem ckX_setBusy : ∀ q ∈ mX_setBusy.2.1, Ck_ 0 RX0 LX 0 q.1 q.2 := fun _ h => absurd h List.not_mem_nil
theorem okX_setBusy : Cn_ 0 LX yX0_setBusy cX0_setBusy 6 0 csX_setBusy := by
  refine Cn_of mX_setBusy KlX hfX (by decide +kernel) rfl rfl rfl hX_setBusy ckX_setBusy (Or.inl (by decide)) ?_
  intro as X hl hr hX hp G hG
  match as, hl with
  | [a, b, c, d], _ => exact vX_setBusy (hr _ (by simp)) (hr _ (by simp)) (hr _ (by simp)) (hr _ (by simp)) hX hp hG
def pX_comesInBy (b i : Int) (X : St_) : Prop := gOK_ X ∧ bk_ X b i
def qX_comesInBy (b i : Int) (X : St_) (z : Int) (Y : St_) : Prop := Y = X ∧ z = cb_ X b i
def csX_comesInBy : Cs_ := (2, false, 1, (fun as X => match as with
  | [a, b] => pX_comesInBy a b X
  | _ => False), (fun as X z Y => match as with
  | [a, b] => qX_comesInBy a b X z Y
  | _ => False))
def mX_comesInBy : Mt_ := (LX, [(79, csX_ticksFor)], 1, EX_comesInBy)
set_option maxRecDepth 100000 in
theorem sX_comesInBy_0 {Rt : Int → St_ → Prop} {G : Nat → Lo_ → List Vl_ → St_ → Prop} (hG : Clo_ mX_comesInBy Rt G) {X : St_} {b i : Int} (h : zR (100 * b) ∧ zR ((100 * b) + i) ∧ 0 ≤ (100 * b) + i ∧ (100 * b) + i < 1000 ∧ zR (100 * b) ∧ zR ((100 * b) + i) ∧ 0 ≤ (100 * b) + i ∧ (100 * b) + i < 1000 ∧ 0 ≤ b ∧ b < 10 ∧ pX_ticksFor (X 17 ((100 * b) + i)) (X 12 b) X ∧ (∀ (z1 : Int) (Y1 : St_), qX_ticksFor (X 17 ((100 * b) + i)) (X 12 b) X z1 Y1 → zR ((X 18 ((100 * b) + i)) + z1) ∧ 0 ≤ X 17 ((100 * b) + i) ∧ X 17 ((100 * b) + i) < 10 ∧ zR (((X 18 ((100 * b) + i)) + z1) + (Y1 7 (X 17 ((100 * b) + i)))) ∧ Rt (((X 18 ((100 * b) + i)) + z1) + (Y1 7 (X 17 ((100 * b) + i)))) Y1)) : G 0 [some (.inr 25), some (.inl b), some (.inl i)] [] X := run_ hG [] 31 0 _ _ X h
theorem vX_comesInBy {b i : Int} {X : St_} (r1 : zR b) (r2 : zR i) (hX : rgX_ X) (hp : pX_comesInBy b i X) {G : Nat → Lo_ → List Vl_ → St_ → Prop} (hG : Clo_ mX_comesInBy (qX_comesInBy b i X) G) : G 0 [some (.inr 25), some (.inl b), some (.inl i)] [] X := by
  obtain ⟨hg, hb⟩ := hp
  have hc := cb_bound hg hb
  have hb' := hb
  obtain ⟨h1, h2, h3, h4⟩ := hb'
  have h9 := hg.2.2.1
  have hB := hg.2.2.2.2 b h1 h2
  have hB2 := hB.2.2.1
  obtain ⟨a1, a2, a3, a4, a5, a6⟩ := hB.2.2.2 i h3 h4
  have hn := hg.1.2.1
  obtain ⟨c1, c2, c3, c4, c5, c6, c7, c8, hk⟩ := hc
  obtain ⟨d1, d2, d3, d4, d5, d6, d7, d8, d9, d10⟩ := hk
  refine sX_comesInBy_0 hG ⟨by omega, by omega, by omega, by omega, by omega, by omega, by omega, by omega, by omega, by omega, ⟨a1, by omega, hB.1.2.2.2.2.2.1, hB.1.2.2.2.2.2.2, by omega, by omega⟩, ?_⟩
  rintro z1 Y1 ⟨rfl, rfl⟩
  exact ⟨by omega, by omega, by omega, by omega, rfl, rfl⟩
theorem ckX_comesInBy : ∀ q ∈ mX_comesInBy.2.1, Ck_ 0 RX0 LX 1 q.1 q.2 := List.forall_mem_cons.mpr ⟨⟨yX0_ticksFor, cX0_ticksFor, 3, 0, okX_ticksFor, by decide, by decide, by decide +kernel, rfl, ⟨by decide, by decide⟩, lw_V q146 q148 qs3 q33 q149⟩, fun _ h => absurd h List.not_mem_nil⟩
theorem okX_comesInBy : Cn_ 0 LX yX0_comesInBy cX0_comesInBy 4 1 csX_comesInBy := by
  refine Cn_of mX_comesInBy KlX hfX (by decide +kernel) rfl rfl rfl hX_comesInBy ckX_comesInBy (Or.inl (by decide)) ?_
  intro as X hl hr hX hp G hG
  match as, hl with
  | [a, b], _ => exact vX_comesInBy (hr _ (by simp)) (hr _ (by simp)) hX hp hG
def pX_lastNode (b : Int) (X : St_) : Prop := gOK_ X ∧ 0 ≤ b ∧ b < X 9 0
def qX_lastNode (b : Int) (X : St_) (z : Int) (Y : St_) : Prop := Y = X ∧ z = ln_ X b
def csX_lastNode : Cs_ := (1, false, 1, (fun as X => match as with
  | [a] => pX_lastNode a X
  | _ => False), (fun as X z Y => match as with
  | [a] => qX_lastNode a X z Y
  | _ => False))
def mX_lastNode : Mt_ := (LX, [], 1, EX_lastNode)
set_option maxRecDepth 100000 in
theorem sX_lastNode_0 {Rt : Int → St_ → Prop} {G : Nat → Lo_ → List Vl_ → St_ → Prop} (hG : Clo_ mX_lastNode Rt G) {X : St_} {b : Int} (h : 0 ≤ b ∧ b < 10 ∧ (¬ X 16 b = 0 → zR (100 * b) ∧ 0 ≤ b ∧ b < 10 ∧ zR ((100 * b) + (X 16 b)) ∧ zR (((100 * b) + (X 16 b)) - 1) ∧ 0 ≤ ((100 * b) + (X 16 b)) - 1 ∧ ((100 * b) + (X 16 b)) - 1 < 1000 ∧ 0 ≤ X 17 (((100 * b) + (X 16 b)) - 1) ∧ X 17 (((100 * b) + (X 16 b)) - 1) < 10 ∧ Rt (X 3 (X 17 (((100 * b) + (X 16 b)) - 1))) X) ∧ (X 16 b = 0 → 0 ≤ b ∧ b < 10 ∧ Rt (X 10 b) X)) : G 0 [some (.inr 25), some (.inl b)] [] X := run_ hG [] 22 0 _ _ X h
theorem vX_lastNode {b : Int} {X : St_} (r1 : zR b) (hX : rgX_ X) (hp : pX_lastNode b X) {G : Nat → Lo_ → List Vl_ → St_ → Prop} (hG : Clo_ mX_lastNode (qX_lastNode b X) G) : G 0 [some (.inr 25), some (.inl b)] [] X := by
  obtain ⟨hg, h1, h2⟩ := hp
  have h9 := hg.2.2.1
  have hB := hg.2.2.2.2 b h1 h2
  have hB2 := hB.2.2.1
  have hn := hg.1.2.1
  refine sX_lastNode_0 hG ⟨h1, by omega, fun hne => ?_, fun he => ⟨h1, by omega, rfl, ?_⟩⟩
  · obtain ⟨a1, a2, a3, a4, a5, a6⟩ := hB.2.2.2 (X 16 b - 1) (by omega) (by omega)
    rw [show 100 * b + (X 16 b - 1) = 100 * b + X 16 b - 1 by omega] at a1 a2
    refine ⟨by omega, h1, by omega, by omega, by omega, by omega, by omega, a1, by omega, rfl, ?_⟩
    unfold ln_
    rw [if_neg hne]
  · unfold ln_
    rw [if_pos he]
theorem ckX_lastNode : ∀ q ∈ mX_lastNode.2.1, Ck_ 0 RX0 LX 0 q.1 q.2 := fun _ h => absurd h List.not_mem_nil
theorem okX_lastNode : Cn_ 0 LX yX0_lastNode cX0_lastNode 2 0 csX_lastNode := by
  refine Cn_of mX_lastNode KlX hfX (by decide +kernel) rfl rfl rfl hX_lastNode ckX_lastNode (Or.inl (by decide)) ?_
  intro as X hl hr hX hp G hG
  match as, hl with
  | [a], _ => exact vX_lastNode (hr _ (by simp)) hX hp hG
theorem co_gOK {X : St_} (h : gOK_ (co_ X)) : gOK_ X := by
  unfold gOK_ nOK_ kOK_ bOK_ hOK_ nb_ tk_ at *
  rw [co_at X (f := 0) (by decide), co_at X (f := 1) (by decide), co_at X (f := 2) (by decide), co_at X (f := 3) (by decide), co_at X (f := 4) (by decide), co_at X (f := 5) (by decide), co_at X (f := 6) (by decide), co_at X (f := 7) (by decide), co_at X (f := 9) (by decide), co_at X (f := 10) (by decide), co_at X (f := 11) (by decide), co_at X (f := 12) (by decide), co_at X (f := 16) (by decide), co_at X (f := 17) (by decide), co_at X (f := 18) (by decide), co_at X (f := 19) (by decide)] at h
  exact h
theorem co_ln (X : St_) (b : Int) : ln_ (co_ X) b = ln_ X b := by
  unfold ln_
  rw [co_at X (f := 16) (by decide), co_at X (f := 10) (by decide), co_at X (f := 3) (by decide), co_at X (f := 17) (by decide)]
theorem co_tk (X : St_) (k s : Int) : tk_ (co_ X) k s = tk_ X k s := tk_nt (co_nt X) k s
theorem co_cb (X : St_) (b i : Int) : cb_ (co_ X) b i = cb_ X b i := by
  unfold cb_
  rw [co_tk, co_at X (f := 18) (by decide), co_at X (f := 17) (by decide), co_at X (f := 12) (by decide), co_at X (f := 7) (by decide)]
theorem co_rd (X : St_) (b : Int) : rd_ (co_ X) b = rd_ X b := by
  unfold rd_
  rw [co_cb, co_at X (f := 16) (by decide), co_at X (f := 19) (by decide)]
theorem co_ap1 (Z : St_) (b k beg : Int) : co_ (sb_ (up_ (up_ (up_ Z 17 (100 * b + Z 16 b) k) 18 (100 * b + Z 16 b) beg) 16 b (Z 16 b + 1)) k beg (tk_ Z k (Z 12 b)) 1) = ap1_ (co_ Z) b k beg := by
  unfold ap1_
  rw [sb_co, co_up _ _ _ (by decide), co_up _ _ _ (by decide), co_up _ _ _ (by decide), co_tk, co_at Z (f := 16) (by decide), co_at Z (f := 12) (by decide)]
theorem zip_ok {N : St_} {size : Int} (hN : nOK_ N) (hs : 1 ≤ size) : ∀ (L : List Int) (v t v' a : Int), wk_ N size v t L v' a → ∀ q ∈ L.zip (bg_ N size t L), 0 ≤ q.1 ∧ q.1 < N 0 0 ∧ N 4 q.1 ≤ q.2 ∧ q.2 + tk_ N q.1 size ≤ N 5 q.1 := by
  intro L
  induction L with
  | nil => intro v t v' a _ q hq; simp at hq
  | cons k ks ih =>
    intro v t v' a hw q hq
    obtain ⟨w1, w2, w3, w4, w5⟩ := hw
    unfold bg_ at hq
    rw [List.zip_cons_cons] at hq
    rcases List.mem_cons.mp hq with e | e
    · subst e
      rcases cin_bound (t := t) (hN.2.2 k w1 w2) hs with e | ⟨-, -, e3, -⟩
      · omega
      · exact ⟨w1, w2, e3.2.1, e3.2.2.1⟩
    · exact ih _ _ _ _ w5 q e
theorem zip_getD : ∀ (L B : List Int) (j : Nat), j < L.length → j < B.length → (L.zip B).getD j (0, 0) = (L.getD j 0, B.getD j 0)
  | [], B, j, h, _ => by simp at h
  | x :: L, [], j, _, h => by simp at h
  | x :: L, y :: B, 0, _, _ => by simp
  | x :: L, y :: B, j + 1, h1, h2 => by
    rw [List.zip_cons_cons, List.getD_cons_succ, List.getD_cons_succ, List.getD_cons_succ]
    exact zip_getD L B j (by simpa using h1) (by simpa using h2)
def pX_plan (b : Int) (X : St_) : Prop := gOK_ (co_ X) ∧ 0 ≤ b ∧ b < X 9 0 ∧ ln_ X b ≠ X 11 b ∧ X 16 b ≤ 50
def qX_plan (b : Int) (X : St_) (_ : Int) (Y : St_) : Prop := co_ Y = pl_ (co_ X) b ∧ Y 15 = X 15
def csX_plan : Cs_ := (1, false, 0, (fun as X => match as with
  | [a] => pX_plan a X
  | _ => False), (fun as X z Y => match as with
  | [a] => qX_plan a X z Y
  | _ => False))
def mX_plan : Mt_ := (LX, [(108, csX_comesInBy), (111, csX_lastNode), (115, csX_findRoute), (79, csX_ticksFor), (119, csX_setBusy)], 0, EX_plan)
set_option maxRecDepth 100000 in
theorem sX_plan_0 {Rt : Int → St_ → Prop} {G : Nat → Lo_ → List Vl_ → St_ → Prop} (hG : Clo_ mX_plan Rt G) {X : St_} {b : Int} (h : 0 ≤ b ∧ b < 10 ∧ (X 16 b ≤ 0 → G 45 [some (.inr 25), some (.inl b), some (.inl (X 19 0))] [] X) ∧ (0 < X 16 b → 0 ≤ b ∧ b < 10 ∧ zR ((X 16 b) - 1) ∧ pX_comesInBy b ((X 16 b) - 1) X ∧ (∀ (z1 : Int) (Y1 : St_), qX_comesInBy b ((X 16 b) - 1) X z1 Y1 → (z1 ≤ Y1 19 0 → G 45 [some (.inr 25), some (.inl b), some (.inl (Y1 19 0))] [] Y1) ∧ (Y1 19 0 < z1 → G 45 [some (.inr 25), some (.inl b), some (.inl z1)] [] Y1)))) : G 0 [some (.inr 25), some (.inl b)] [] X := run_ hG [(45, 3), (138, 6)] 25 0 _ _ X h
set_option maxRecDepth 100000 in
theorem sX_plan_45 {Rt : Int → St_ → Prop} {G : Nat → Lo_ → List Vl_ → St_ → Prop} (hG : Clo_ mX_plan Rt G) {X : St_} {b ready : Int} (h : pX_lastNode b X ∧ (∀ (z1 : Int) (Y1 : St_), qX_lastNode b X z1 Y1 → 0 ≤ b ∧ b < 10 ∧ ((0 : Int) = 0 ∨ (0 : Int) = 1) ∧ 0 ≤ b ∧ b < 10 ∧ (¬ z1 = Y1 11 b → 0 ≤ b ∧ b < 10 ∧ 0 ≤ b ∧ b < 10 ∧ pX_findRoute z1 (Y1 11 b) ready (Y1 12 b) (up_ Y1 14 b 0) ∧ (∀ (z2 : Int) (Y2 : St_), qX_findRoute z1 (Y1 11 b) ready (Y1 12 b) (up_ Y1 14 b 0) z2 Y2 → (1000000 ≤ z2 → Rt 0 Y2) ∧ (z2 < 1000000 → 0 ≤ b ∧ b < 10 ∧ (z2 ≤ Y2 13 b → 0 ≤ b ∧ b < 10 ∧ ((1 : Int) = 0 ∨ (1 : Int) = 1) ∧ G 138 [some (.inr 25), some (.inl b), some (.inl ready), some (.inl z1), some (.inl z2), some (.inl 0)] [] (up_ Y2 14 b 1)) ∧ (Y2 13 b < z2 → Rt 0 Y2)))) ∧ (z1 = Y1 11 b → 0 ≤ b ∧ b < 10 ∧ (Y1 16 b ≤ 0 → 0 ≤ b ∧ b < 10 ∧ ((0 : Int) = 0 ∨ (0 : Int) = 1) ∧ Rt 0 (up_ (up_ Y1 14 b 0) 14 b 0)) ∧ (0 < Y1 16 b → 0 ≤ b ∧ b < 10 ∧ ((1 : Int) = 0 ∨ (1 : Int) = 1) ∧ Rt 0 (up_ (up_ Y1 14 b 0) 14 b 1))))) : G 45 [some (.inr 25), some (.inl b), some (.inl ready)] [] X := run_ hG [(45, 3), (138, 6)] 44 45 _ _ X h
set_option maxRecDepth 100000 in
theorem sX_plan_138 {Rt : Int → St_ → Prop} {G : Nat → Lo_ → List Vl_ → St_ → Prop} (hG : Clo_ mX_plan Rt G) {X : St_} {b ready node arr i : Int} (h : (X 20 0 ≤ i → Rt 0 X) ∧ (i < X 20 0 → 0 ≤ b ∧ b < 10 ∧ (100 ≤ X 16 b → Rt 0 X) ∧ (X 16 b < 100 → 0 ≤ i ∧ i < 5 ∧ zR (100 * b) ∧ 0 ≤ b ∧ b < 10 ∧ zR ((100 * b) + (X 16 b)) ∧ 0 ≤ (100 * b) + (X 16 b) ∧ (100 * b) + (X 16 b) < 1000 ∧ zR (100 * b) ∧ 0 ≤ b ∧ b < 10 ∧ zR ((100 * b) + (X 16 b)) ∧ 0 ≤ i ∧ i < 5 ∧ 0 ≤ (100 * b) + (X 16 b) ∧ (100 * b) + (X 16 b) < 1000 ∧ 0 ≤ b ∧ b < 10 ∧ zR ((X 16 b) + 1) ∧ 0 ≤ b ∧ b < 10 ∧ 0 ≤ b ∧ b < 10 ∧ pX_ticksFor (X 21 i) (X 12 b) (up_ (up_ (up_ X 17 ((100 * b) + (X 16 b)) (X 21 i)) 18 ((100 * b) + (X 16 b)) (X 22 i)) 16 b ((X 16 b) + 1)) ∧ (∀ (z1 : Int) (Y1 : St_), qX_ticksFor (X 21 i) (X 12 b) (up_ (up_ (up_ X 17 ((100 * b) + (X 16 b)) (X 21 i)) 18 ((100 * b) + (X 16 b)) (X 22 i)) 16 b ((X 16 b) + 1)) z1 Y1 → 0 ≤ i ∧ i < 5 ∧ pX_setBusy (X 21 i) (Y1 22 i) z1 1 Y1 ∧ (∀ (z2 : Int) (Y2 : St_), qX_setBusy (X 21 i) (Y1 22 i) z1 1 Y1 z2 Y2 → zR (i + 1) ∧ G 138 [some (.inr 25), some (.inl b), some (.inl ready), some (.inl node), some (.inl arr), some (.inl (i + 1))] [] Y2))))) : G 138 [some (.inr 25), some (.inl b), some (.inl ready), some (.inl node), some (.inl arr), some (.inl i)] [] X := run_ hG [(45, 3), (138, 6)] 69 138 _ _ X h
theorem lX_plan138 {b : Int} {X : St_} (hg : gOK_ X) (h1 : 0 ≤ b) (h2 : b < X 9 0) {G : Nat → Lo_ → List Vl_ → St_ → Prop} (hG : Clo_ mX_plan (qX_plan b X) G) {ready node arr : Int} :
    ∀ (r : List (Int × Int)) (i : Nat) (Z : St_), (∀ q ∈ r, 0 ≤ q.1 ∧ q.1 < X 0 0 ∧ X 4 q.1 ≤ q.2 ∧ q.2 + tk_ X q.1 (X 12 b) ≤ X 5 q.1) → Z 20 0 = i + r.length → i + r.length ≤ 5 → (∀ j : Nat, j < r.length → Z 21 (i + j) = (r.getD j (0, 0)).1 ∧ Z 22 (i + j) = (r.getD j (0, 0)).2) →
      Z 6 = X 6 → Z 12 = X 12 → 0 ≤ Z 16 b → Z 16 b + r.length ≤ 60 → ap_ b r (co_ Z) = pl_ (co_ X) b → Z 15 = X 15 → G 138 [some (.inr 25), some (.inl b), some (.inl ready), some (.inl node), some (.inl arr), some (.inl (i : Int))] [] Z := by
  have h9 := hg.2.2.1
  have hB := hg.2.2.2.2 b h1 h2
  have hn := hg.1.2.1
  intro r
  induction r with
  | nil =>
    intro i Z hv h20 h5 hij h6 h12 h16 h16' hap h15
    refine sX_plan_138 hG ⟨fun _ => ⟨hap, h15⟩, fun h => ?_⟩
    rw [h20] at h
    simp at h
  | cons q r ih =>
    intro i Z hv h20 h5 hij h6 h12 h16 h16' hap h15
    obtain ⟨v1, v2, v3, v4⟩ := hv q List.mem_cons_self
    have hkX := hg.1.2.2 q.1 v1 v2
    obtain ⟨d1, d2, d3, d4, d5, d6, d7, d8, d9, d10, d11⟩ := hkX
    have ht := tk_pos (X := X) (k := q.1) (size := X 12 b) d8 hB.1.2.2.2.2.2.1
    have ht2 := tk_le (X := X) (k := q.1) (size := X 12 b) d8 hB.1.2.2.2.2.2.1
    have hq := hij 0 (by simp)
    simp only [Int.natCast_zero, Int.add_zero, List.getD_cons_zero] at hq
    rw [List.length_cons] at h20 h5 h16'
    push_cast at h20 h16'
    have e6 : ∀ (k : Int), tk_ (up_ (up_ (up_ Z 17 (100 * b + Z 16 b) q.1) 18 (100 * b + Z 16 b) q.2) 16 b (Z 16 b + 1)) k (Z 12 b) = tk_ Z k (Z 12 b) := by
      intro k
      unfold tk_
      rw [up_ne _ _ _ _ (by decide), up_ne _ _ _ _ (by decide), up_ne _ _ _ _ (by decide)]
    have etk : tk_ Z q.1 (Z 12 b) = tk_ X q.1 (X 12 b) := by unfold tk_; rw [h6, h12]
    refine sX_plan_138 hG ⟨fun h => by omega, fun h => ⟨h1, by omega, fun h => by omega, fun _ => ⟨by omega, by omega, by omega, h1, by omega, by omega, by omega, by omega, by omega, h1, by omega, by omega, by omega, by omega, by omega, by omega, h1, by omega, by omega, h1, by omega, h1, by omega, ?_, ?_⟩⟩⟩
    · rw [hq.1, h12]
      refine ⟨v1, by omega, hB.1.2.2.2.2.2.1, hB.1.2.2.2.2.2.2, ?_, ?_⟩
      · rw [up_ne _ _ _ _ (by decide), up_ne _ _ _ _ (by decide), up_ne _ _ _ _ (by decide), h6]; exact d8
      · rw [up_ne _ _ _ _ (by decide), up_ne _ _ _ _ (by decide), up_ne _ _ _ _ (by decide), h6]; exact d9
    · rw [hq.1, hq.2]
      rintro z1 Y1 ⟨rfl, rfl⟩
      have e22 : up_ (up_ (up_ Z 17 (100 * b + Z 16 b) q.1) 18 (100 * b + Z 16 b) q.2) 16 b (Z 16 b + 1) 22 (i : Int) = q.2 := by
        rw [up_ne _ _ _ _ (by decide), up_ne _ _ _ _ (by decide), up_ne _ _ _ _ (by decide)]
        exact hq.2
      rw [e22, e6]
      refine ⟨by omega, by omega, ⟨v1, by omega, by omega, by omega, by omega, Or.inr rfl⟩, ?_⟩
      rintro z2 Y2 rfl
      refine ⟨by omega, ?_⟩
      have e : ∀ f, f ≠ 8 → f ≠ 16 → f ≠ 17 → f ≠ 18 → sb_ (up_ (up_ (up_ Z 17 (100 * b + Z 16 b) q.1) 18 (100 * b + Z 16 b) q.2) 16 b (Z 16 b + 1)) q.1 q.2 (tk_ Z q.1 (Z 12 b)) 1 f = Z f := by
        intro f f8 f16 f17 f18
        rw [sb_ne _ _ _ _ _ f8]
        funext j
        rw [up_ne _ _ _ _ f16, up_ne _ _ _ _ f18, up_ne _ _ _ _ f17]
      have e16 : sb_ (up_ (up_ (up_ Z 17 (100 * b + Z 16 b) q.1) 18 (100 * b + Z 16 b) q.2) 16 b (Z 16 b + 1)) q.1 q.2 (tk_ Z q.1 (Z 12 b)) 1 16 b = Z 16 b + 1 := by
        rw [sb_ne _ _ _ _ _ (by decide), up_at]
      have g := ih (i + 1) (sb_ (up_ (up_ (up_ Z 17 (100 * b + Z 16 b) q.1) 18 (100 * b + Z 16 b) q.2) 16 b (Z 16 b + 1)) q.1 q.2 (tk_ Z q.1 (Z 12 b)) 1) (fun q hq => hv q (List.mem_cons_of_mem _ hq)) (by rw [e 20 (by decide) (by decide) (by decide) (by decide), h20]; push_cast; omega) (by omega) (fun j hj => ?_) (by rw [e 6 (by decide) (by decide) (by decide) (by decide)]; exact h6) (by rw [e 12 (by decide) (by decide) (by decide) (by decide)]; exact h12) (by rw [e16]; omega) (by rw [e16]; omega) (by rw [co_ap1]; exact hap) (by rw [e 15 (by decide) (by decide) (by decide) (by decide)]; exact h15)
      · push_cast at g
        exact g
      · rw [e 21 (by decide) (by decide) (by decide) (by decide), e 22 (by decide) (by decide) (by decide) (by decide)]
        have hh := hij (j + 1) (by simp; omega)
        rw [List.getD_cons_succ] at hh
        push_cast at hh ⊢
        rw [show (i : Int) + 1 + j = i + (j + 1) by omega]
        exact hh
theorem vX_plan {b : Int} {X : St_} (r1 : zR b) (hX : rgX_ X) (hp : pX_plan b X) {G : Nat → Lo_ → List Vl_ → St_ → Prop} (hG : Clo_ mX_plan (qX_plan b X) G) : G 0 [some (.inr 25), some (.inl b)] [] X := by
  obtain ⟨hgc, h1, h2, h3, h4⟩ := hp
  have hg := co_gOK hgc
  have h9 := hg.2.2.1
  have hB := hg.2.2.2.2 b h1 h2
  have hB2 := hB.2.2.1
  have hrd := rd_bound hg h1 h2
  have hln := ln_bound hg h1 h2
  have hs1 := hB.1.2.2.2.2.2.1
  have hs2 := hB.1.2.2.2.2.2.2
  have main : G 45 [some (.inr 25), some (.inl b), some (.inl (rd_ X b))] [] X := by
    refine sX_plan_45 hG ⟨⟨hg, h1, h2⟩, ?_⟩
    rintro z1 Y1 ⟨rfl, rfl⟩
    have hnt : nt_ (up_ Y1 14 b 0) = nt_ Y1 := nt_up _ _ _ (by decide)
    refine ⟨h1, by omega, Or.inl rfl, h1, by omega, fun _ => ⟨h1, by omega, h1, by omega, ⟨nOK_nt hnt.symm hg.1, hB.1.2.2.1, hB.1.2.2.2.1, h3, by omega, hs1, hs2⟩, ?_⟩, fun he => absurd he h3⟩
    rintro z2 Y2 ⟨hf, hres⟩
    have hco : co_ Y2 = up_ (co_ Y1) 14 b 0 := by rw [co_fr hf (by decide), co_up _ _ _ (by decide)]
    have h15 : Y2 15 = Y1 15 := by rw [hf 15 (by decide)]; funext j; exact up_ne _ _ _ _ (by decide)
    have h13 : Y2 13 b = Y1 13 b := by rw [hf 13 (by decide)]; exact up_ne _ _ _ _ (by decide)
    have epl : pl_ (co_ Y1) b = match bf_ Y1 (Y1 12 b) (ln_ Y1 b) (rd_ Y1 b) (Y1 11 b) with
        | some (L, a) => if a ≤ Y1 13 b then ap_ b (L.zip (bg_ Y1 (Y1 12 b) (rd_ Y1 b) L)) (up_ (co_ Y1) 14 b 1) else up_ (co_ Y1) 14 b 0
        | none => up_ (co_ Y1) 14 b 0 := by
      unfold pl_
      rw [bf_nt (co_nt Y1), co_ln, co_rd, co_at Y1 (f := 12) (by decide), co_at Y1 (f := 11) (by decide), co_at Y1 (f := 13) (by decide)]
      cases bf_ Y1 (Y1 12 b) (ln_ Y1 b) (rd_ Y1 b) (Y1 11 b) with
      | none => rfl
      | some q =>
        simp only
        rw [bg_nt (co_nt Y1)]
    rcases hres with ⟨hz, hno⟩ | ⟨hz, L, hbs, h20, hij⟩
    · have hbf : bf_ Y1 (Y1 12 b) (ln_ Y1 b) (rd_ Y1 b) (Y1 11 b) = none := bf_none (fun R c r1 r2 r3 => hno R c r1 r2 ((wk_nt hnt _ _ _ _ _ _).mpr r3))
      rw [hbf] at epl
      exact ⟨fun _ => ⟨by rw [hco, epl], h15⟩, fun h => by omega⟩
    · have hbs' := bs_nt hnt hbs
      have hbf := bf_some hbs'
      rw [hbf] at epl
      simp only at epl
      refine ⟨fun h => by omega, fun _ => ⟨h1, by omega, fun hle => ⟨h1, by omega, Or.inr rfl, ?_⟩, fun hgt => ⟨?_, h15⟩⟩⟩
      · rw [h13] at hle
        rw [if_pos hle] at epl
        have hlen : (L.zip (bg_ Y1 (Y1 12 b) (rd_ Y1 b) L)).length = L.length := by rw [List.length_zip, bg_length, Nat.min_self]
        have hl5 := hbs'.2.2.1
        have e16 : up_ Y2 14 b 1 16 b = Y1 16 b := by rw [up_ne _ _ _ _ (by decide), hf 16 (by decide), up_ne _ _ _ _ (by decide)]
        refine lX_plan138 hg h1 h2 hG (L.zip (bg_ Y1 (Y1 12 b) (rd_ Y1 b) L)) 0 (up_ Y2 14 b 1) (zip_ok hg.1 hs1 L _ _ _ _ hbs'.1) ?_ ?_ ?_ ?_ ?_ ?_ ?_ ?_ ?_
        · rw [up_ne _ _ _ _ (by decide), h20, hlen]; simp
        · rw [hlen]; omega
        · intro j hj
          rw [hlen] at hj
          obtain ⟨i1, i2⟩ := hij j hj
          rw [up_ne _ _ _ _ (by decide), up_ne _ _ _ _ (by decide)]
          simp only [Int.natCast_zero, Int.zero_add]
          rw [i1, i2, bg_nt hnt]
          have hj2 : j < (bg_ Y1 (Y1 12 b) (rd_ Y1 b) L).length := by rw [bg_length]; exact hj
          rw [zip_getD _ _ _ hj hj2]
          exact ⟨rfl, rfl⟩
        · funext j; rw [up_ne _ _ _ _ (by decide), hf 6 (by decide), up_ne _ _ _ _ (by decide)]
        · funext j; rw [up_ne _ _ _ _ (by decide), hf 12 (by decide), up_ne _ _ _ _ (by decide)]
        · rw [e16]; omega
        · rw [e16, hlen]; omega
        · rw [co_up _ _ _ (by decide), hco, up_up, epl]
        · rw [← h15]; funext j; exact up_ne _ _ _ _ (by decide)
      · rw [h13] at hgt
        rw [if_neg (by omega)] at epl
        rw [hco, epl]
  refine sX_plan_0 hG ⟨h1, by omega, fun hle => ?_, fun hlt => ⟨h1, by omega, by omega, ⟨hg, h1, h2, by omega, by omega⟩, ?_⟩⟩
  · have e : rd_ X b = X 19 0 := by
      unfold rd_
      rw [if_neg (by omega)]
    rw [e] at main
    exact main
  · rintro z1 Y1 ⟨rfl, rfl⟩
    refine ⟨fun hle => ?_, fun hgt => ?_⟩
    · have e : rd_ Y1 b = Y1 19 0 := by
        unfold rd_
        rw [if_neg (by omega)]
      rw [e] at main
      exact main
    · have e : rd_ Y1 b = cb_ Y1 b (Y1 16 b - 1) := by
        unfold rd_
        rw [if_pos ⟨hlt, hgt⟩]
      rw [e] at main
      exact main
theorem ckX_plan : ∀ q ∈ mX_plan.2.1, Ck_ 0 RX0 LX 6 q.1 q.2 := List.forall_mem_cons.mpr ⟨⟨yX0_comesInBy, cX0_comesInBy, 4, 1, okX_comesInBy, by decide, by decide, by decide +kernel, rfl, ⟨by decide, by decide⟩, lw_V q142 q144 qs2 q33 q145⟩, List.forall_mem_cons.mpr ⟨⟨yX0_lastNode, cX0_lastNode, 2, 0, okX_lastNode, by decide, by decide, by decide +kernel, rfl, ⟨by decide, by decide⟩, lw_V q150 q152 qs4 q33 q153⟩, List.forall_mem_cons.mpr ⟨⟨yX0_findRoute, cX0_findRoute, 12, 5, okX_findRoute, by decide, by decide, by decide +kernel, rfl, ⟨by decide, by decide⟩, lw_V q154 q156 qs5 q33 q157⟩, List.forall_mem_cons.mpr ⟨⟨yX0_ticksFor, cX0_ticksFor, 3, 0, okX_ticksFor, by decide, by decide, by decide +kernel, rfl, ⟨by decide, by decide⟩, lw_V q146 q148 qs3 q33 q149⟩, List.forall_mem_cons.mpr ⟨⟨yX0_setBusy, cX0_setBusy, 6, 0, okX_setBusy, by decide, by decide, by decide +kernel, rfl, ⟨by decide, by decide⟩, lw_V q179 q181 qs11 q33 q182⟩, fun _ h => absurd h List.not_mem_nil⟩⟩⟩⟩⟩
theorem okX_plan : Cn_ 0 LX yX0_plan cX0_plan 8 6 csX_plan := by
  refine Cn_of mX_plan KlX hfX (by decide +kernel) rfl rfl rfl hX_plan ckX_plan (Or.inl (by decide)) ?_
  intro as X hl hr hX hp G hG
  match as, hl with
  | [a], _ => exact vX_plan (hr _ (by simp)) hX hp hG
end
section
/-! THE OPERATIONS, PURE: retry, a contact more, a bundle more, time; they keep the state sound -/
theorem IV_congr {X : St_} {E E' : Int → Prop} (h : IV_ X E) (he : ∀ c, 0 ≤ c → c < X 9 0 → (E c ↔ E' c)) : IV_ X E' := by
  refine ⟨h.1, fun b h0 h1 => ?_⟩
  rcases h.2 b h0 h1 with ⟨q1, q2⟩ | ⟨q1, q2⟩
  · exact Or.inl ⟨(he b h0 h1).mp q1, q2⟩
  · exact Or.inr ⟨fun z => q1 ((he b h0 h1).mpr z), q2⟩
theorem ry_IV {X : St_} (h : IV_ X (fun _ => False)) : ∀ (m : Nat), (m : Int) ≤ X 9 0 → IV_ (ry_ X m) (fun _ => False) ∧ ∀ f, f ≠ 8 → f ≠ 14 → f ≠ 16 → f ≠ 17 → f ≠ 18 → ry_ X m f = X f := by
  intro m
  induction m with
  | zero => intro _; exact ⟨h, fun _ _ _ _ _ _ => rfl⟩
  | succ m ih =>
    intro hm
    push_cast at hm
    obtain ⟨i1, i2⟩ := ih (by omega)
    have e9 := i2 9 (by decide) (by decide) (by decide) (by decide) (by decide)
    show IV_ (if ry_ X m 14 m = 0 then pl_ (ry_ X m) m else ry_ X m) _ ∧ ∀ f, _ → _ → _ → _ → _ → (if ry_ X m 14 m = 0 then pl_ (ry_ X m) m else ry_ X m) f = X f
    by_cases h14 : ry_ X m 14 m = 0
    · rw [if_pos h14]
      have hpn : pn_ (ry_ X m) m := by
        rcases i1.2 m (by omega) (by rw [e9]; omega) with ⟨q, -⟩ | ⟨-, q⟩
        · exact q.elim
        · rcases q with q | q
          · omega
          · exact q.2
      obtain ⟨p1, p2, -, -⟩ := pl_IV i1 (b := (m : Int)) (by omega) (by rw [e9]; omega) hpn
      refine ⟨IV_congr p1 (fun c _ _ => ⟨fun q => q.1, fun q => q.elim⟩), fun f a1 a2 a3 a4 a5 => ?_⟩
      rw [p2 f a1 a2 a3 a4 a5, i2 f a1 a2 a3 a4 a5]
    · rw [if_neg h14]
      exact ⟨i1, i2⟩
/-- a contact more -/
def nc_ (X : St_) (e s t : Int) : St_ := up_ (up_ (up_ (up_ (up_ (up_ (up_ X 0 0 (X 0 0 + 1)) 2 (X 0 0) (e / 6)) 3 (X 0 0) (e % 6)) 4 (X 0 0) (s / 101)) 5 (X 0 0) (s % 101)) 6 (X 0 0) (t / 10)) 7 (X 0 0) (t % 10)
theorem nc_ne (X : St_) (e s t : Int) {f : Nat} (h : f = 1 ∨ 8 ≤ f) : nc_ X e s t f = X f := by
  funext j
  unfold nc_
  rw [up_ne _ _ _ _ (by omega), up_ne _ _ _ _ (by omega), up_ne _ _ _ _ (by omega), up_ne _ _ _ _ (by omega), up_ne _ _ _ _ (by omega), up_ne _ _ _ _ (by omega), up_ne _ _ _ _ (by omega)]
theorem nc_nei (X : St_) (e s t : Int) {f : Nat} {j : Int} (hf : f ≠ 0) (h : j ≠ X 0 0) : nc_ X e s t f j = X f j := by
  unfold nc_
  rw [up_nei _ _ _ _ h, up_nei _ _ _ _ h, up_nei _ _ _ _ h, up_nei _ _ _ _ h, up_nei _ _ _ _ h, up_nei _ _ _ _ h, up_ne _ _ _ _ hf]
theorem nc_0 (X : St_) (e s t : Int) : nc_ X e s t 0 0 = X 0 0 + 1 := by
  unfold nc_
  rw [up_ne _ _ _ _ (by decide), up_ne _ _ _ _ (by decide), up_ne _ _ _ _ (by decide), up_ne _ _ _ _ (by decide), up_ne _ _ _ _ (by decide), up_ne _ _ _ _ (by decide), up_at]
theorem nc_new (X : St_) (e s t : Int) : nc_ X e s t 2 (X 0 0) = e / 6 ∧ nc_ X e s t 3 (X 0 0) = e % 6 ∧ nc_ X e s t 4 (X 0 0) = s / 101 ∧ nc_ X e s t 5 (X 0 0) = s % 101 ∧ nc_ X e s t 6 (X 0 0) = t / 10 ∧ nc_ X e s t 7 (X 0 0) = t % 10 := by
  unfold nc_
  simp [up_]
theorem nc_IV {X : St_} (h : IV_ X (fun _ => False)) {e s t : Int} (h10 : X 0 0 < 10) (he : 0 ≤ e ∧ e < 36 ∧ e / 6 ≠ e % 6) (hs : 0 ≤ s ∧ s < 10201 ∧ s / 101 < s % 101) (ht : 10 ≤ t ∧ t < 100) : IV_ (nc_ X e s t) (fun _ => False) := by
  obtain ⟨⟨⟨hn, hca, h9, h19, hbs⟩, hBZ, hDJ⟩, hE⟩ := h
  obtain ⟨n1, n2, n3, n4, n5, n6⟩ := nc_new X e s t
  have e9 := nc_ne X e s t (f := 9) (by decide)
  have e10 := nc_ne X e s t (f := 10) (by decide)
  have e11 := nc_ne X e s t (f := 11) (by decide)
  have e12 := nc_ne X e s t (f := 12) (by decide)
  have e14 := nc_ne X e s t (f := 14) (by decide)
  have e16 := nc_ne X e s t (f := 16) (by decide)
  have e17 := nc_ne X e s t (f := 17) (by decide)
  have e18 := nc_ne X e s t (f := 18) (by decide)
  have hhop : ∀ c i, bk_ X c i → 0 ≤ X 17 (100 * c + i) ∧ X 17 (100 * c + i) < X 0 0 := by
    intro c i hc
    obtain ⟨a1, a2, -⟩ := (hbs c hc.1 hc.2.1).2.2.2 i hc.2.2.1 hc.2.2.2
    exact ⟨a1, a2⟩
  have htk : ∀ k size, k ≠ X 0 0 → tk_ (nc_ X e s t) k size = tk_ X k size := by
    intro k size hk
    unfold tk_
    rw [nc_nei X e s t (by decide) hk]
  have hnb : ∀ c i, 0 ≤ c → c < X 9 0 → 0 ≤ i → i ≤ X 16 c → nb_ (nc_ X e s t) c i = nb_ X c i := by
    intro c i hc0 hc1 hi0 hi1
    unfold nb_
    rw [e10, e17]
    by_cases ei : i = 0
    · rw [if_pos ei, if_pos ei]
    · rw [if_neg ei, if_neg ei]
      have := hhop c (i - 1) ⟨hc0, hc1, by omega, by omega⟩
      rw [show 100 * c + i - 1 = 100 * c + (i - 1) by omega]
      exact nc_nei X e s t (by decide) (by omega)
  have hoc : ∀ k u, oc_ (nc_ X e s t) k u ↔ oc_ X k u := by
    intro k u
    unfold oc_ bk_
    rw [e9, e12, e16, e17, e18]
    constructor
    · rintro ⟨c, i, hc, hq, h1, h2⟩
      have := hhop c i hc
      rw [htk k _ (by omega)] at h2
      exact ⟨c, i, hc, hq, h1, h2⟩
    · rintro ⟨c, i, hc, hq, h1, h2⟩
      have := hhop c i hc
      refine ⟨c, i, hc, hq, h1, ?_⟩
      rw [htk k _ (by omega)]
      exact h2
  refine ⟨⟨⟨⟨?_, ?_, ?_⟩, ?_, ?_, ?_, ?_⟩, ?_, ?_⟩, ?_⟩
  · rw [nc_0]; have := hn.1; omega
  · rw [nc_0]; omega
  · intro k h0 h1
    rw [nc_0] at h1
    unfold kOK_
    by_cases ek : k = X 0 0
    · rw [ek, n1, n2, n3, n4, n5, n6]
      omega
    · rw [nc_nei X e s t (by decide) ek, nc_nei X e s t (by decide) ek, nc_nei X e s t (by decide) ek, nc_nei X e s t (by decide) ek, nc_nei X e s t (by decide) ek, nc_nei X e s t (by decide) ek]
      exact hn.2.2 k h0 (by omega)
  · rw [nc_ne X e s t (by decide)]; exact hca
  · rw [e9]; exact h9
  · rw [nc_ne X e s t (by decide)]; exact h19
  · rw [e9]
    intro c hc0 hc1
    obtain ⟨b1, b2, b3, b4⟩ := hbs c hc0 hc1
    unfold bOK_
    rw [e10, e11, e12, e16]
    refine ⟨b1, trivial, b3, fun i hi0 hi1 => ?_⟩
    have hh := hhop c i ⟨hc0, hc1, hi0, hi1⟩
    obtain ⟨a1, a2, a3, a4, a5, a6⟩ := b4 i hi0 hi1
    unfold hOK_
    rw [hnb c i hc0 hc1 hi0 (by omega), e17, e18, e11, e12, nc_0, htk _ _ (by omega), nc_nei X e s t (by decide) (by omega), nc_nei X e s t (by decide) (by omega), nc_nei X e s t (by decide) (by omega)]
    exact ⟨a1, by omega, a3, a4, a5, a6⟩
  · intro k u a1 a2 a3 a4
    rw [hoc, nc_ne X e s t (f := 8) (by decide)]
    exact hBZ k u a1 a2 a3 a4
  · intro b i c j hb hc hsame hne
    unfold bk_ at hb hc
    rw [e9, e16] at hb hc
    rw [e17] at hsame
    have q1 := hhop b i hb
    have q2 := hhop c j hc
    rw [e17, e18, e12, htk _ _ (by omega), htk _ _ (by omega)]
    exact hDJ b i c j hb hc hsame hne
  · intro c hc0 hc1
    rw [e9] at hc1
    rcases hE c hc0 hc1 with ⟨q, -⟩ | ⟨-, q⟩
    · exact q.elim
    · refine Or.inr ⟨fun z => z, ?_⟩
      have hln : ln_ (nc_ X e s t) c = ln_ X c := by
        rw [ln_nb, ln_nb, e16]
        exact hnb c _ hc0 hc1 (hbs c hc0 hc1).2.2.1.1 (by omega)
      have hcc : cc_ (nc_ X e s t) = cc_ X := by
        unfold cc_
        rw [nc_ne X e s t (by decide)]
      unfold rOK_ pn_
      rw [hln, hcc, e11, e14, e16]
      exact q
/-- a bundle more -/
def sd_ (X : St_) (e size lim : Int) : St_ := up_ (up_ (up_ (up_ (up_ (up_ X 9 0 (X 9 0 + 1)) 10 (X 9 0) (e / 6)) 11 (X 9 0) (e % 6)) 12 (X 9 0) size) 13 (X 9 0) lim) 16 (X 9 0) 0
theorem sd_ne (X : St_) (e size lim : Int) {f : Nat} (h : f ≤ 8 ∨ f = 14 ∨ f = 15 ∨ 17 ≤ f) : sd_ X e size lim f = X f := by
  funext j
  unfold sd_
  rw [up_ne _ _ _ _ (by omega), up_ne _ _ _ _ (by omega), up_ne _ _ _ _ (by omega), up_ne _ _ _ _ (by omega), up_ne _ _ _ _ (by omega), up_ne _ _ _ _ (by omega)]
theorem sd_nei (X : St_) (e size lim : Int) {f : Nat} {j : Int} (hf : f ≠ 9) (h : j ≠ X 9 0) : sd_ X e size lim f j = X f j := by
  unfold sd_
  rw [up_nei _ _ _ _ h, up_nei _ _ _ _ h, up_nei _ _ _ _ h, up_nei _ _ _ _ h, up_nei _ _ _ _ h, up_ne _ _ _ _ hf]
theorem sd_9 (X : St_) (e size lim : Int) : sd_ X e size lim 9 0 = X 9 0 + 1 := by
  unfold sd_
  rw [up_ne _ _ _ _ (by decide), up_ne _ _ _ _ (by decide), up_ne _ _ _ _ (by decide), up_ne _ _ _ _ (by decide), up_ne _ _ _ _ (by decide), up_at]
theorem sd_new (X : St_) (e size lim : Int) : sd_ X e size lim 10 (X 9 0) = e / 6 ∧ sd_ X e size lim 11 (X 9 0) = e % 6 ∧ sd_ X e size lim 12 (X 9 0) = size ∧ sd_ X e size lim 13 (X 9 0) = lim ∧ sd_ X e size lim 16 (X 9 0) = 0 := by
  unfold sd_
  simp [up_]
theorem sd_IV {X : St_} (h : IV_ X (fun _ => False)) {e size lim : Int} (h10 : X 9 0 < 10) (he : 0 ≤ e ∧ e < 36 ∧ e / 6 ≠ e % 6) (hs : 1 ≤ size ∧ size ≤ 30) : IV_ (sd_ X e size lim) (fun c => c = X 9 0) ∧ pn_ (sd_ X e size lim) (X 9 0) := by
  obtain ⟨⟨⟨hn, hca, h9, h19, hbs⟩, hBZ, hDJ⟩, hE⟩ := h
  obtain ⟨n1, n2, n3, n4, n5⟩ := sd_new X e size lim
  have hcon : ∀ f, f = 0 ∨ f = 2 ∨ f = 3 ∨ f = 4 ∨ f = 5 ∨ f = 6 ∨ f = 7 → sd_ X e size lim f = X f := fun f hf => sd_ne X e size lim (by omega)
  have heb : ∀ c, c ≠ X 9 0 → eb_ X (sd_ X e size lim) c := by
    intro c hc
    refine ⟨hcon, sd_nei X e size lim (by decide) hc, sd_nei X e size lim (by decide) hc, sd_nei X e size lim (by decide) hc, sd_nei X e size lim (by decide) hc, fun i _ _ => ?_⟩
    rw [sd_ne X e size lim (f := 17) (by decide), sd_ne X e size lim (f := 18) (by decide)]
    exact ⟨rfl, rfl⟩
  have hbk : ∀ c j, bk_ (sd_ X e size lim) c j ↔ bk_ X c j := by
    intro c j
    unfold bk_
    rw [sd_9]
    by_cases ec : c = X 9 0
    · rw [ec, n5]
      omega
    · rw [sd_nei X e size lim (by decide) ec]
      omega
  have htk : ∀ k s, tk_ (sd_ X e size lim) k s = tk_ X k s := by
    intro k s
    unfold tk_
    rw [sd_ne X e size lim (by decide)]
  have e17 := sd_ne X e size lim (f := 17) (by decide)
  have e18 := sd_ne X e size lim (f := 18) (by decide)
  have h12 : ∀ c j, bk_ X c j → sd_ X e size lim 12 c = X 12 c := by
    intro c j hc
    have := hc.2.1
    exact sd_nei X e size lim (by decide) (by omega)
  have hoc : ∀ k u, oc_ (sd_ X e size lim) k u ↔ oc_ X k u := by
    intro k u
    unfold oc_
    rw [e17, e18]
    constructor
    · rintro ⟨c, i, hc, hq, h1, h2⟩
      have hc := (hbk c i).mp hc
      rw [htk, h12 c i hc] at h2
      exact ⟨c, i, hc, hq, h1, h2⟩
    · rintro ⟨c, i, hc, hq, h1, h2⟩
      refine ⟨c, i, (hbk c i).mpr hc, hq, h1, ?_⟩
      rw [htk, h12 c i hc]
      exact h2
  have hcc : cc_ (sd_ X e size lim) = cc_ X := by
    unfold cc_
    rw [sd_ne X e size lim (by decide)]
  have hgb := cc_bound (X := X) ⟨hn, hca, h9, h19, hbs⟩
  have hpn : pn_ (sd_ X e size lim) (X 9 0) := by
    unfold pn_ ln_
    rw [n5, hcc, if_pos rfl, n1, n2]
    exact ⟨he.2.2, by omega⟩
  refine ⟨⟨⟨⟨nOK_eb hcon hn, ?_, ?_, ?_, ?_⟩, ?_, ?_⟩, ?_⟩, hpn⟩
  · rw [sd_ne X e size lim (by decide)]; exact hca
  · rw [sd_9]; omega
  · rw [sd_ne X e size lim (by decide)]; exact h19
  · rw [sd_9]
    intro c hc0 hc1
    by_cases ec : c = X 9 0
    · rw [ec]
      unfold bOK_
      rw [n1, n2, n3, n5]
      exact ⟨by omega, trivial, by omega, fun i h0 h1 => by omega⟩
    · exact eb_bOK (heb c ec) (hbs c hc0 (by omega))
  · intro k u a1 a2 a3 a4
    rw [hoc, sd_ne X e size lim (f := 8) (by decide)]
    exact hBZ k u a1 a2 a3 a4
  · intro b i c j hb hc hsame hne
    have hb := (hbk b i).mp hb
    have hc := (hbk c j).mp hc
    rw [e17] at hsame
    rw [e17, e18, htk, htk, h12 b i hb, h12 c j hc]
    exact hDJ b i c j hb hc hsame hne
  · intro c hc0 hc1
    rw [sd_9] at hc1
    by_cases ec : c = X 9 0
    · rw [ec]
      exact Or.inl ⟨rfl, hpn⟩
    · rcases hE c hc0 (by omega) with ⟨q, -⟩ | ⟨-, q⟩
      · exact q.elim
      · refine Or.inr ⟨ec, ?_⟩
        have hln := eb_ln (heb c ec) (hbs c hc0 (by omega)).2.2.1.1
        unfold rOK_ pn_
        rw [hln, hcc, sd_nei X e size lim (f := 11) (by decide) ec, sd_nei X e size lim (f := 16) (by decide) ec, sd_ne X e size lim (f := 14) (by decide)]
        exact q
/-- time passes -/
theorem ps_IV {X : St_} (h : IV_ X (fun _ => False)) {n : Int} (h0 : 0 ≤ n) (h1 : n ≤ 20000) : IV_ (up_ X 19 0 n) (fun _ => False) := by
  obtain ⟨⟨⟨hn, hca, h9, h19, hbs⟩, hBZ, hDJ⟩, hE⟩ := h
  have e : ∀ f, f ≠ 19 → up_ X 19 0 n f = X f := fun f h => by funext j; exact up_ne _ _ _ _ h
  have hcon : ∀ f, f = 0 ∨ f = 2 ∨ f = 3 ∨ f = 4 ∨ f = 5 ∨ f = 6 ∨ f = 7 → up_ X 19 0 n f = X f := fun f hf => e f (by omega)
  have heb : ∀ c, eb_ X (up_ X 19 0 n) c := fun c => ⟨hcon, by rw [e 10 (by decide)], by rw [e 11 (by decide)], by rw [e 12 (by decide)], by rw [e 16 (by decide)], fun i _ _ => by rw [e 17 (by decide), e 18 (by decide)]; exact ⟨rfl, rfl⟩⟩
  refine ⟨⟨⟨nOK_eb hcon hn, ?_, ?_, ?_, ?_⟩, ?_, ?_⟩, ?_⟩
  · rw [e 1 (by decide)]; exact hca
  · rw [e 9 (by decide)]; exact h9
  · rw [up_at]; omega
  · rw [e 9 (by decide)]
    intro c hc0 hc1
    exact eb_bOK (heb c) (hbs c hc0 hc1)
  · intro k u a1 a2 a3 a4
    rw [oc_congr (X := X) (fun f hf => e f (by omega)), e 8 (by decide)]
    exact hBZ k u a1 a2 a3 a4
  · exact DJ_congr (fun f hf => e f (by omega)) hDJ
  · rw [e 9 (by decide)]
    intro c hc0 hc1
    rcases hE c hc0 hc1 with ⟨q, -⟩ | ⟨-, q⟩
    · exact q.elim
    · refine Or.inr ⟨fun z => z, ?_⟩
      unfold rOK_ pn_ cc_
      rw [eb_ln (heb c) (hbs c hc0 hc1).2.2.1.1, e 1 (by decide), e 11 (by decide), e 14 (by decide), e 16 (by decide)]
      exact q
end
section
/-! CANCEL, PURE: bookings lost, those hit planned again, retry -/
noncomputable def ob_ (X : St_) (b k : Int) : Int := lst_ (fun i => 0 ≤ i ∧ i < X 16 b ∧ X 17 (100 * b + i) = k ∧ X 19 0 < X 18 (100 * b + i) + tk_ X k (X 12 b))
theorem ob_cases (X : St_) (b k : Int) : (ob_ X b k = -1 ∧ ∀ i, ¬ (0 ≤ i ∧ i < X 16 b ∧ X 17 (100 * b + i) = k ∧ X 19 0 < X 18 (100 * b + i) + tk_ X k (X 12 b))) ∨ ((0 ≤ ob_ X b k ∧ ob_ X b k < X 16 b ∧ X 17 (100 * b + ob_ X b k) = k ∧ X 19 0 < X 18 (100 * b + ob_ X b k) + tk_ X k (X 12 b)) ∧ ∀ c, (0 ≤ c ∧ c < X 16 b ∧ X 17 (100 * b + c) = k ∧ X 19 0 < X 18 (100 * b + c) + tk_ X k (X 12 b)) → ob_ X b k ≤ c) :=
  lst_cases 0 (fun b h => h.1)
theorem ob_eb {X Y : St_} {b k : Int} (h : eb_ X Y b) (h19 : Y 19 0 = X 19 0) : ob_ Y b k = ob_ X b k := by
  unfold ob_
  congr 1
  funext i
  apply propext
  obtain ⟨hf, e10, e11, e12, e16, hh⟩ := h
  have ht : ∀ q s, tk_ Y q s = tk_ X q s := fun q s => by unfold tk_; rw [hf 6 (by simp)]
  constructor
  · rintro ⟨a1, a2, a3, a4⟩
    rw [e16] at a2
    obtain ⟨c1, c2⟩ := hh i a1 a2
    rw [c1] at a3
    rw [c2, h19, ht, e12] at a4
    exact ⟨a1, a2, a3, a4⟩
  · rintro ⟨a1, a2, a3, a4⟩
    obtain ⟨c1, c2⟩ := hh i a1 a2
    rw [e16, c1, c2, h19, ht, e12]
    exact ⟨a1, a2, a3, a4⟩
def lz_ (b : Int) : Nat → Int → St_ → St_
  | 0, _, Z => Z
  | n + 1, j, Z => lz_ b n (j + 1) (sb_ Z (Z 17 (100 * b + j)) (Z 18 (100 * b + j)) (tk_ Z (Z 17 (100 * b + j)) (Z 12 b)) 0)
def ls_ (X : St_) (b i : Int) : St_ := up_ (lz_ b (X 16 b - i).toNat i X) 16 b i
theorem lz_ne {b : Int} : ∀ (n : Nat) (j : Int) (Z : St_) {f : Nat}, f ≠ 8 → lz_ b n j Z f = Z f := by
  intro n
  induction n with
  | zero => intro j Z f _; rfl
  | succ n ih =>
    intro j Z f hf
    show lz_ b n (j + 1) _ f = Z f
    rw [ih _ _ hf, sb_ne _ _ _ _ _ hf]
theorem lz_8 {b : Int} : ∀ (n : Nat) (j : Int) (Z : St_) (p : Int), ((∃ i, j ≤ i ∧ i < j + n ∧ 101 * Z 17 (100 * b + i) + Z 18 (100 * b + i) ≤ p ∧ p < 101 * Z 17 (100 * b + i) + Z 18 (100 * b + i) + tk_ Z (Z 17 (100 * b + i)) (Z 12 b)) → lz_ b n j Z 8 p = 0) ∧
    ((¬ ∃ i, j ≤ i ∧ i < j + n ∧ 101 * Z 17 (100 * b + i) + Z 18 (100 * b + i) ≤ p ∧ p < 101 * Z 17 (100 * b + i) + Z 18 (100 * b + i) + tk_ Z (Z 17 (100 * b + i)) (Z 12 b)) → lz_ b n j Z 8 p = Z 8 p) := by
  intro n
  induction n with
  | zero =>
    intro j Z p
    refine ⟨?_, fun _ => rfl⟩
    rintro ⟨i, h1, h2, -⟩
    omega
  | succ n ih =>
    intro j Z p
    have h := ih (j + 1) (sb_ Z (Z 17 (100 * b + j)) (Z 18 (100 * b + j)) (tk_ Z (Z 17 (100 * b + j)) (Z 12 b)) 0) p
    have htk : ∀ k s, tk_ (sb_ Z (Z 17 (100 * b + j)) (Z 18 (100 * b + j)) (tk_ Z (Z 17 (100 * b + j)) (Z 12 b)) 0) k s = tk_ Z k s := fun k s => by unfold tk_; rw [sb_ne _ _ _ _ _ (by decide)]
    rw [sb_ne _ _ _ _ _ (show (17 : Nat) ≠ 8 by decide), sb_ne _ _ _ _ _ (show (18 : Nat) ≠ 8 by decide), sb_ne _ _ _ _ _ (show (12 : Nat) ≠ 8 by decide)] at h
    simp only [htk] at h
    obtain ⟨g1, g2⟩ := h
    show (_ → lz_ b n (j + 1) _ 8 p = 0) ∧ (_ → lz_ b n (j + 1) _ 8 p = Z 8 p)
    constructor
    · rintro ⟨i, h1, h2, h3, h4⟩
      by_cases hex : ∃ i, j + 1 ≤ i ∧ i < j + 1 + n ∧ 101 * Z 17 (100 * b + i) + Z 18 (100 * b + i) ≤ p ∧ p < 101 * Z 17 (100 * b + i) + Z 18 (100 * b + i) + tk_ Z (Z 17 (100 * b + i)) (Z 12 b)
      · exact g1 hex
      · rw [g2 hex]
        by_cases ei : i = j
        · subst ei
          unfold sb_
          rw [if_pos ⟨rfl, h3, h4⟩]
        · exact absurd ⟨i, by omega, by push_cast at h2; omega, h3, h4⟩ hex
    · intro hno
      rw [g2 (fun ⟨i, h1, h2, h3, h4⟩ => hno ⟨i, by omega, by push_cast; omega, h3, h4⟩)]
      unfold sb_
      rw [if_neg (fun q => hno ⟨j, by omega, by push_cast; omega, q.2.1, q.2.2⟩)]
theorem ls_ne {X : St_} {b i : Int} {f : Nat} (h8 : f ≠ 8) (h16 : f ≠ 16) : ls_ X b i f = X f := by
  funext j
  unfold ls_
  rw [up_ne _ _ _ _ h16, lz_ne _ _ _ h8]
theorem ls_16 {X : St_} {b i c : Int} : ls_ X b i 16 c = if c = b then i else X 16 c := by
  unfold ls_ up_
  by_cases h : c = b
  · rw [if_pos ⟨rfl, h⟩, if_pos h]
  · rw [if_neg (fun q => h q.2), if_neg h, lz_ne _ _ _ (by decide)]
theorem ls_eb {X : St_} {b i c : Int} (h : c ≠ b) : eb_ X (ls_ X b i) c := by
  refine ⟨fun f hf => ls_ne (by omega) (by omega), ?_, ?_, ?_, ?_, fun j _ _ => ?_⟩
  · rw [ls_ne (by decide) (by decide)]
  · rw [ls_ne (by decide) (by decide)]
  · rw [ls_ne (by decide) (by decide)]
  · rw [ls_16, if_neg h]
  · rw [ls_ne (by decide) (by decide), ls_ne (by decide) (by decide)]
    exact ⟨rfl, rfl⟩
theorem ls_J {X : St_} (hJ : J_ X) {b i : Int} (h0 : 0 ≤ b) (h1 : b < X 9 0) (hi0 : 0 ≤ i) (hi1 : i < X 16 b) : J_ (ls_ X b i) ∧ ln_ (ls_ X b i) b ≠ X 11 b := by
  obtain ⟨hg, hBZ, hDJ⟩ := hJ
  have hg' := hg
  obtain ⟨hn, hca, h9, h19, hbs⟩ := hg'
  have e : ∀ f, f ≠ 8 → f ≠ 16 → ls_ X b i f = X f := fun f a1 a2 => ls_ne a1 a2
  have hcon : ∀ f, f = 0 ∨ f = 2 ∨ f = 3 ∨ f = 4 ∨ f = 5 ∨ f = 6 ∨ f = 7 → ls_ X b i f = X f := fun f hf => e f (by omega) (by omega)
  have htk : ∀ k s, tk_ (ls_ X b i) k s = tk_ X k s := fun k s => by unfold tk_; rw [e 6 (by decide) (by decide)]
  have hB := hbs b h0 h1
  have hB2 := hB.2.2.1
  have hnb : ∀ c j, nb_ (ls_ X b i) c j = nb_ X c j := fun c j => by unfold nb_; rw [e 10 (by decide) (by decide), e 3 (by decide) (by decide), e 17 (by decide) (by decide)]
  have hbk : ∀ c j, bk_ (ls_ X b i) c j ↔ bk_ X c j ∧ ¬ (c = b ∧ i ≤ j) := by
    intro c j
    unfold bk_
    rw [e 9 (by decide) (by decide), ls_16]
    by_cases ec : c = b
    · rw [if_pos ec, ec]; omega
    · rw [if_neg ec]; omega
  have hlost : ∀ k t, 0 ≤ k → k < 10 → 0 ≤ t → t ≤ 100 → (((∃ j, i ≤ j ∧ j < X 16 b ∧ X 17 (100 * b + j) = k ∧ X 18 (100 * b + j) ≤ t ∧ t < X 18 (100 * b + j) + tk_ X k (X 12 b)) → ls_ X b i 8 (101 * k + t) = 0) ∧ ((¬ ∃ j, i ≤ j ∧ j < X 16 b ∧ X 17 (100 * b + j) = k ∧ X 18 (100 * b + j) ≤ t ∧ t < X 18 (100 * b + j) + tk_ X k (X 12 b)) → ls_ X b i 8 (101 * k + t) = X 8 (101 * k + t))) := by
    intro k t a1 a2 a3 a4
    have h8 := lz_8 (b := b) (X 16 b - i).toNat i X (101 * k + t)
    have e8 : ls_ X b i 8 (101 * k + t) = lz_ b (X 16 b - i).toNat i X 8 (101 * k + t) := by unfold ls_; rw [up_ne _ _ _ _ (by decide)]
    rw [e8]
    constructor
    · rintro ⟨j, j1, j2, j3, j4, j5⟩
      refine h8.1 ⟨j, j1, by omega, ?_, ?_⟩
      · rw [j3]; omega
      · rw [j3]; omega
    · intro hno
      refine h8.2 ?_
      rintro ⟨j, j1, j2, j3, j4⟩
      have hb := cb_bound hg (b := b) (i := j) ⟨h0, h1, by omega, by omega⟩
      obtain ⟨a1', a2', a3', a4', -⟩ := hB.2.2.2 j (by omega) (by omega)
      have hk5 := hb.2.2.2.2.2.2.2
      have hkk : X 17 (100 * b + j) = k := by
        obtain ⟨_, _, _, _, _, _, k7, _⟩ := hk5
        omega
      rw [hkk] at j3 j4
      exact hno ⟨j, j1, by omega, hkk, by omega, by omega⟩
  have hbOKb : bOK_ (ls_ X b i) b := by
    obtain ⟨b1, b2, b3, b4⟩ := hB
    unfold bOK_
    rw [e 10 (by decide) (by decide), e 11 (by decide) (by decide), e 12 (by decide) (by decide), ls_16, if_pos rfl]
    refine ⟨b1, trivial, by omega, fun j j0 j1 => ?_⟩
    have := b4 j j0 (by omega)
    unfold hOK_ at this ⊢
    rw [hnb, htk, e 0 (by decide) (by decide), e 2 (by decide) (by decide), e 4 (by decide) (by decide), e 5 (by decide) (by decide), e 11 (by decide) (by decide), e 12 (by decide) (by decide), e 17 (by decide) (by decide), e 18 (by decide) (by decide)]
    exact this
  refine ⟨⟨⟨nOK_eb hcon hn, ?_, ?_, ?_, ?_⟩, ?_, ?_⟩, ?_⟩
  · rw [e 1 (by decide) (by decide)]; exact hca
  · rw [e 9 (by decide) (by decide)]; exact h9
  · rw [e 19 (by decide) (by decide)]; exact h19
  · rw [e 9 (by decide) (by decide)]
    intro c hc0 hc1
    by_cases ec : c = b
    · rw [ec]; exact hbOKb
    · exact eb_bOK (ls_eb ec) (hbs c hc0 hc1)
  · intro k t a1 a2 a3 a4
    obtain ⟨l1, l2⟩ := hlost k t a1 a2 a3 a4
    by_cases hex : ∃ j, i ≤ j ∧ j < X 16 b ∧ X 17 (100 * b + j) = k ∧ X 18 (100 * b + j) ≤ t ∧ t < X 18 (100 * b + j) + tk_ X k (X 12 b)
    · right
      refine ⟨l1 hex, ?_⟩
      rintro ⟨c, q, hcq, hk, t1, t2⟩
      rw [e 17 (by decide) (by decide)] at hk
      rw [e 18 (by decide) (by decide)] at t1 t2
      rw [htk, e 12 (by decide) (by decide)] at t2
      obtain ⟨hcq1, hcq2⟩ := (hbk c q).mp hcq
      obtain ⟨j, j1, j2, j3, j4, j5⟩ := hex
      have hd := hDJ c q b j hcq1 ⟨h0, h1, by omega, j2⟩ (hk.trans j3.symm) (by omega)
      rw [hk, j3] at hd
      omega
    · rw [l2 hex]
      rcases hBZ k t a1 a2 a3 a4 with ⟨z, o⟩ | ⟨z, o⟩
      · left
        refine ⟨z, ?_⟩
        obtain ⟨c, q, hcq, hk, t1, t2⟩ := o
        refine ⟨c, q, (hbk c q).mpr ⟨hcq, ?_⟩, ?_, ?_, ?_⟩
        · rintro ⟨rfl, hq⟩
          exact hex ⟨q, hq, hcq.2.2.2, hk, t1, t2⟩
        · rw [e 17 (by decide) (by decide)]; exact hk
        · rw [e 18 (by decide) (by decide)]; exact t1
        · rw [e 18 (by decide) (by decide), htk, e 12 (by decide) (by decide)]; exact t2
      · right
        refine ⟨z, ?_⟩
        rintro ⟨c, q, hcq, hk, t1, t2⟩
        rw [e 17 (by decide) (by decide)] at hk
        rw [e 18 (by decide) (by decide)] at t1 t2
        rw [htk, e 12 (by decide) (by decide)] at t2
        exact o ⟨c, q, ((hbk c q).mp hcq).1, hk, t1, t2⟩
  · intro c q d r hc hd hsame hne
    rw [e 17 (by decide) (by decide)] at hsame
    rw [e 17 (by decide) (by decide), e 18 (by decide) (by decide), e 12 (by decide) (by decide), htk, htk]
    exact hDJ c q d r ((hbk c q).mp hc).1 ((hbk d r).mp hd).1 hsame hne
  · rw [ln_nb, ls_16, if_pos rfl, hnb]
    obtain ⟨a1, a2, a3, a4, a5, a6⟩ := hB.2.2.2 i hi0 hi1
    rw [← a5]
    exact a6
/-- cancelled: the flag -/
theorem cf_J {X : St_} (hJ : J_ X) (k : Int) : J_ (up_ X 1 k 1) := by
  obtain ⟨⟨hn, hca, h9, h19, hbs⟩, hBZ, hDJ⟩ := hJ
  have e : ∀ f, f ≠ 1 → up_ X 1 k 1 f = X f := fun f h => by funext j; exact up_ne _ _ _ _ h
  have hcon : ∀ f, f = 0 ∨ f = 2 ∨ f = 3 ∨ f = 4 ∨ f = 5 ∨ f = 6 ∨ f = 7 → up_ X 1 k 1 f = X f := fun f hf => e f (by omega)
  have heb : ∀ c, eb_ X (up_ X 1 k 1) c := fun c => ⟨hcon, by rw [e 10 (by decide)], by rw [e 11 (by decide)], by rw [e 12 (by decide)], by rw [e 16 (by decide)], fun i _ _ => by rw [e 17 (by decide), e 18 (by decide)]; exact ⟨rfl, rfl⟩⟩
  refine ⟨⟨nOK_eb hcon hn, ?_, ?_, ?_, ?_⟩, ?_, ?_⟩
  · intro q h0 h1
    by_cases eq : q = k
    · rw [eq, up_at]; exact Or.inr rfl
    · rw [up_nei _ _ _ _ eq]; exact hca q h0 h1
  · rw [e 9 (by decide)]; exact h9
  · rw [e 19 (by decide)]; exact h19
  · rw [e 9 (by decide)]
    intro c hc0 hc1
    exact eb_bOK (heb c) (hbs c hc0 hc1)
  · intro q u a1 a2 a3 a4
    rw [oc_congr (X := X) (fun f hf => e f (by omega)), e 8 (by decide)]
    exact hBZ q u a1 a2 a3 a4
  · exact DJ_congr (fun f hf => e f (by omega)) hDJ
theorem sm_bump {f g : Int → Int} {k : Int} : ∀ (n : Nat), 0 ≤ k → k < n → g k = f k + 1 → (∀ j, j ≠ k → g j = f j) → sm_ g n = sm_ f n + 1 := by
  intro n
  induction n with
  | zero => intro h0 h1; omega
  | succ n ih =>
    intro h0 h1 hk hne
    push_cast at h1
    unfold sm_
    by_cases e : k = n
    · have : sm_ g n = sm_ f n := sm_congr n (fun j j0 j1 => hne j (by omega))
      rw [this, ← e, hk]
      omega
    · rw [ih h0 (by omega) hk hne, hne n (fun q => e q.symm)]
      omega
/-- the bundles hit lose bookings; they are planned; the others retried -/
noncomputable def lc_ (X : St_) (k : Int) : Nat → St_
  | 0 => X
  | m + 1 => if 0 ≤ ob_ X m k then ls_ (lc_ X k m) m (ob_ X m k) else lc_ X k m
noncomputable def hp_ (X Z : St_) (k : Int) : Nat → St_
  | 0 => Z
  | m + 1 => if 0 ≤ ob_ X m k then pl_ (hp_ X Z k m) m else hp_ X Z k m
noncomputable def nh_ (X : St_) (k : Int) (m : Nat) : Int := sm_ (fun b => if 0 ≤ ob_ X b k then 1 else 0) m
noncomputable def ca_ (X : St_) (k : Int) : St_ := ry_ (hp_ (up_ X 1 k 1) (lc_ (up_ X 1 k 1) k (X 9 0).toNat) k (X 9 0).toNat) (X 9 0).toNat
/-- behind m bundles looked at -/
theorem lc_IV {X : St_} {k : Int} (hJ : J_ X) (hr : ∀ b, 0 ≤ b → b < X 9 0 → rOK_ X b ∧ X 16 b ≤ 5 * cc_ X) : ∀ (m : Nat), (m : Int) ≤ X 9 0 → IV_ (lc_ X k m) (fun c => c < m ∧ 0 ≤ ob_ X c k) ∧ (∀ f, f ≠ 8 → f ≠ 16 → lc_ X k m f = X f) ∧ ∀ c, (m : Int) ≤ c → eb_ X (lc_ X k m) c := by
  intro m
  induction m with
  | zero =>
    intro _
    exact ⟨⟨hJ, fun b h0 h1 => Or.inr ⟨fun q => by omega, (hr b h0 h1).1⟩⟩, fun _ _ _ => rfl, fun c _ => eb_refl _ _⟩
  | succ m ih =>
    intro hm
    push_cast at hm
    obtain ⟨i1, i2, i3⟩ := ih (by omega)
    have e9 := i2 9 (by decide) (by decide)
    have e11 := i2 11 (by decide) (by decide)
    have ecc : cc_ (lc_ X k m) = cc_ X := by unfold cc_; rw [i2 1 (by decide) (by decide)]
    show IV_ (if 0 ≤ ob_ X m k then ls_ (lc_ X k m) m (ob_ X m k) else lc_ X k m) _ ∧ (∀ f, _ → _ → (if 0 ≤ ob_ X m k then ls_ (lc_ X k m) m (ob_ X m k) else lc_ X k m) f = X f) ∧ ∀ c, _ → eb_ X (if 0 ≤ ob_ X m k then ls_ (lc_ X k m) m (ob_ X m k) else lc_ X k m) c
    by_cases hob : 0 ≤ ob_ X m k
    · rw [if_pos hob]
      have hi : ob_ X m k < X 16 m := by
        rcases ob_cases X m k with ⟨q, -⟩ | ⟨q, -⟩
        · omega
        · exact q.2.1
      have em := i3 m (by omega)
      have e16 := em.2.2.2.2.1
      obtain ⟨l1, l2⟩ := ls_J i1.1 (b := (m : Int)) (i := ob_ X m k) (by omega) (by rw [e9]; omega) hob (by rw [e16]; exact hi)
      have lcc : cc_ (ls_ (lc_ X k m) m (ob_ X m k)) = cc_ X := by unfold cc_; rw [ls_ne (by decide) (by decide), i2 1 (by decide) (by decide)]
      refine ⟨⟨l1, fun c hc0 hc1 => ?_⟩, fun f a1 a2 => ?_, fun c hc => ?_⟩
      · rw [ls_ne (by decide) (by decide)] at hc1
        by_cases ec : c = m
        · left
          subst ec
          refine ⟨⟨by push_cast; omega, hob⟩, ?_, ?_⟩
          · rw [ls_ne (f := 11) (by decide) (by decide)]; exact l2
          · rw [lcc, ls_16, if_pos rfl]
            have := (hr m (by omega) (by omega)).2
            omega
        · have hl := eb_ln (ls_eb (X := lc_ X k m) (b := m) (i := ob_ X m k) ec) (i1.1.1.2.2.2.2 c hc0 hc1).2.2.1.1
          have hst : pn_ (ls_ (lc_ X k m) m (ob_ X m k)) c ↔ pn_ (lc_ X k m) c := by
            unfold pn_
            rw [hl, lcc, ecc, ls_16, if_neg ec, ls_ne (f := 11) (by decide) (by decide)]
          have hro : rOK_ (ls_ (lc_ X k m) m (ob_ X m k)) c ↔ rOK_ (lc_ X k m) c := by
            unfold rOK_
            rw [hst, hl, lcc, ecc, ls_16, if_neg ec, ls_ne (f := 11) (by decide) (by decide), ls_ne (f := 14) (by decide) (by decide)]
          rw [hst, hro]
          rcases i1.2 c hc0 hc1 with ⟨q1, q2⟩ | ⟨q1, q2⟩
          · exact Or.inl ⟨⟨by push_cast; omega, q1.2⟩, q2⟩
          · exact Or.inr ⟨fun z => q1 ⟨by have := z.1; push_cast at this; omega, z.2⟩, q2⟩
      · rw [ls_ne a1 a2, i2 f a1 a2]
      · push_cast at hc
        exact eb_trans (i3 c (by omega)) (ls_eb (by omega))
    · rw [if_neg hob]
      refine ⟨IV_congr i1 (fun c hc0 hc1 => ⟨fun q => ⟨by push_cast; omega, q.2⟩, fun q => ⟨?_, q.2⟩⟩), i2, fun c hc => i3 c (by push_cast at hc; omega)⟩
      have h1 := q.1
      push_cast at h1
      by_cases ec : c = m
      · subst ec
        exact absurd q.2 hob
      · omega
theorem hp_IV {X Z : St_} {k : Int} (h : IV_ Z (fun c => 0 ≤ ob_ X c k)) : ∀ (m : Nat), (m : Int) ≤ Z 9 0 → IV_ (hp_ X Z k m) (fun c => (m : Int) ≤ c ∧ 0 ≤ ob_ X c k) ∧ ∀ f, f ≠ 8 → f ≠ 14 → f ≠ 16 → f ≠ 17 → f ≠ 18 → hp_ X Z k m f = Z f := by
  intro m
  induction m with
  | zero => intro _; exact ⟨IV_congr h (fun c h0 _ => ⟨fun q => ⟨h0, q⟩, fun q => q.2⟩), fun _ _ _ _ _ _ => rfl⟩
  | succ m ih =>
    intro hm
    push_cast at hm
    obtain ⟨i1, i2⟩ := ih (by omega)
    have e9 := i2 9 (by decide) (by decide) (by decide) (by decide) (by decide)
    show IV_ (if 0 ≤ ob_ X m k then pl_ (hp_ X Z k m) m else hp_ X Z k m) _ ∧ ∀ f, _ → _ → _ → _ → _ → (if 0 ≤ ob_ X m k then pl_ (hp_ X Z k m) m else hp_ X Z k m) f = Z f
    by_cases hob : 0 ≤ ob_ X m k
    · rw [if_pos hob]
      have hpn : pn_ (hp_ X Z k m) m := by
        rcases i1.2 m (by omega) (by rw [e9]; omega) with ⟨-, q⟩ | ⟨q, -⟩
        · exact q
        · exact absurd ⟨by omega, hob⟩ q
      obtain ⟨p1, p2, -, -⟩ := pl_IV i1 (b := (m : Int)) (by omega) (by rw [e9]; omega) hpn
      refine ⟨IV_congr p1 (fun c _ _ => ?_), fun f a1 a2 a3 a4 a5 => ?_⟩
      · push_cast
        constructor
        · rintro ⟨⟨q1, q2⟩, q3⟩
          exact ⟨by omega, q2⟩
        · rintro ⟨q1, q2⟩
          exact ⟨⟨by omega, q2⟩, by omega⟩
      · rw [p2 f a1 a2 a3 a4 a5, i2 f a1 a2 a3 a4 a5]
    · rw [if_neg hob]
      refine ⟨IV_congr i1 (fun c hc0 hc1 => ?_), i2⟩
      push_cast
      constructor
      · rintro ⟨q1, q2⟩
        refine ⟨?_, q2⟩
        by_cases ec : c = m
        · subst ec
          exact absurd q2 hob
        · omega
      · rintro ⟨q1, q2⟩
        exact ⟨by omega, q2⟩
theorem cf_rOK {X : St_} (h : IV_ X (fun _ => False)) {k : Int} (hk0 : 0 ≤ k) (hk1 : k < 10) (hk : X 1 k = 0) : ∀ b, 0 ≤ b → b < up_ X 1 k 1 9 0 → rOK_ (up_ X 1 k 1) b ∧ up_ X 1 k 1 16 b ≤ 5 * cc_ (up_ X 1 k 1) := by
  intro b h0 h1
  rw [up_ne _ _ _ _ (by decide)] at h1
  have hcc : cc_ (up_ X 1 k 1) = cc_ X + 1 := by
    unfold cc_
    exact sm_bump 10 hk0 (by omega) (by rw [up_at, hk]; omega) (fun j hj => up_nei _ _ _ _ hj)
  have e : ∀ f, f ≠ 1 → up_ X 1 k 1 f = X f := fun f h => by funext j; exact up_ne _ _ _ _ h
  have hln : ln_ (up_ X 1 k 1) b = ln_ X b := by unfold ln_; rw [e 16 (by decide), e 10 (by decide), e 3 (by decide), e 17 (by decide)]
  rcases h.2 b h0 h1 with ⟨q, -⟩ | ⟨-, q⟩
  · exact q.elim
  · unfold rOK_ pn_ at *
    rw [hcc, hln, e 11 (by decide), e 14 (by decide), e 16 (by decide)]
    rcases q with ⟨q1, q2, q3, q4⟩ | ⟨q1, q2, q3⟩
    · exact ⟨Or.inl ⟨q1, q2, q3, by omega⟩, by omega⟩
    · exact ⟨Or.inr ⟨q1, q2, by omega⟩, by omega⟩
theorem ca_IV {X : St_} (h : IV_ X (fun _ => False)) {k : Int} (hk0 : 0 ≤ k) (hk1 : k < 10) (hk : X 1 k = 0) : IV_ (ca_ X k) (fun _ => False) := by
  have h9 := h.1.1.2.2.1
  have e9 : up_ X 1 k 1 9 0 = X 9 0 := up_ne _ _ _ _ (by decide)
  have hm : ((X 9 0).toNat : Int) = X 9 0 := by omega
  obtain ⟨l1, l2, -⟩ := lc_IV (k := k) (cf_J h.1 k) (cf_rOK h hk0 hk1 hk) (X 9 0).toNat (by omega)
  have le9 : lc_ (up_ X 1 k 1) k (X 9 0).toNat 9 0 = X 9 0 := by rw [l2 9 (by decide) (by decide)]; exact e9
  obtain ⟨p1, p2⟩ := hp_IV (X := up_ X 1 k 1) (k := k) (IV_congr (E' := fun c => 0 ≤ ob_ (up_ X 1 k 1) c k) l1 (fun c hc0 hc1 => ⟨fun q => q.2, fun q => ⟨by rw [le9] at hc1; omega, q⟩⟩)) (X 9 0).toNat (by rw [le9]; omega)
  have pe9 : hp_ (up_ X 1 k 1) (lc_ (up_ X 1 k 1) k (X 9 0).toNat) k (X 9 0).toNat 9 0 = X 9 0 := by rw [p2 9 (by decide) (by decide) (by decide) (by decide) (by decide)]; exact le9
  exact (ry_IV (IV_congr (E' := fun _ => False) p1 (fun c hc0 hc1 => ⟨fun q => by rw [pe9] at hc1; omega, fun q => q.elim⟩)) (X 9 0).toNat (by rw [pe9]; omega)).1
end
section
/-! THE COMPONENT's OPERATIONS: retry, contact, openBooking, loseFrom, cancel, send, pass, time -/
theorem co_pn {X : St_} {b : Int} (h : pn_ (co_ X) b) : ln_ X b ≠ X 11 b ∧ X 16 b ≤ 5 * cc_ (co_ X) := by
  unfold pn_ at h
  rw [co_ln, co_at X (f := 11) (by decide), co_at X (f := 16) (by decide)] at h
  exact h
theorem plan_pre {Z : St_} {E : Int → Prop} {b : Int} (h : IV_ (co_ Z) E) (h0 : 0 ≤ b) (h1 : b < Z 9 0) (hp : pn_ (co_ Z) b) : pX_plan b Z := by
  have hq := co_pn hp
  have hc := cc_bound h.1.1
  exact ⟨h.1.1, h0, h1, hq.1, by omega⟩
def pX_retry (X : St_) : Prop := IV_ (co_ X) (fun _ => False)
def qX_retry (X : St_) (_ : Int) (Y : St_) : Prop := co_ Y = ry_ (co_ X) (X 9 0).toNat
def csX_retry : Cs_ := (0, false, 0, (fun as X => match as with
  | [] => pX_retry  X
  | _ => False), (fun as X z Y => match as with
  | [] => qX_retry  X z Y
  | _ => False))
def mX_retry : Mt_ := (LX, [(126, csX_plan)], 0, EX_retry)
set_option maxRecDepth 100000 in
theorem sX_retry_0 {Rt : Int → St_ → Prop} {G : Nat → Lo_ → List Vl_ → St_ → Prop} (hG : Clo_ mX_retry Rt G) {X : St_} (h : G 2 [some (.inr 25), some (.inl 0)] [] X) : G 0 [some (.inr 25)] [] X := run_ hG [(2, 2)] 2 0 _ _ X h
set_option maxRecDepth 100000 in
theorem sX_retry_2 {Rt : Int → St_ → Prop} {G : Nat → Lo_ → List Vl_ → St_ → Prop} (hG : Clo_ mX_retry Rt G) {X : St_} {b : Int} (h : (X 9 0 ≤ b → Rt 0 X) ∧ (b < X 9 0 → 0 ≤ b ∧ b < 10 ∧ (¬ X 14 b = 0 → zR (b + 1) ∧ G 2 [some (.inr 25), some (.inl (b + 1))] [] X) ∧ (X 14 b = 0 → pX_plan b X ∧ (∀ (z1 : Int) (Y1 : St_), qX_plan b X z1 Y1 → zR (b + 1) ∧ G 2 [some (.inr 25), some (.inl (b + 1))] [] Y1)))) : G 2 [some (.inr 25), some (.inl b)] [] X := run_ hG [(2, 2)] 14 2 _ _ X h
theorem lX_retry {X : St_} (hp : pX_retry X) {G : Nat → Lo_ → List Vl_ → St_ → Prop} (hG : Clo_ mX_retry (qX_retry X) G) :
    ∀ (d m : Nat) (Z : St_), (X 9 0).toNat = m + d → co_ Z = ry_ (co_ X) m → G 2 [some (.inr 25), some (.inl (m : Int))] [] Z := by
  have e9X : co_ X 9 0 = X 9 0 := by rw [co_at X (by decide)]
  have h9 := hp.1.1.2.2.1
  rw [e9X] at h9
  intro d
  induction d with
  | zero =>
    intro m Z hm hco
    have hi := (ry_IV hp m (by rw [e9X]; omega)).2 9 (by decide) (by decide) (by decide) (by decide) (by decide)
    have e9 : Z 9 0 = X 9 0 := by rw [← co_at Z (f := 9) (by decide), hco, hi, e9X]
    refine sX_retry_2 hG ⟨fun _ => ?_, fun h => by omega⟩
    show co_ Z = ry_ (co_ X) (X 9 0).toNat
    rw [hm]
    exact hco
  | succ d ih =>
    intro m Z hm hco
    obtain ⟨i1, i2⟩ := ry_IV hp m (by rw [e9X]; omega)
    have hi := i2 9 (by decide) (by decide) (by decide) (by decide) (by decide)
    have e9 : Z 9 0 = X 9 0 := by rw [← co_at Z (f := 9) (by decide), hco, hi, e9X]
    have e14 : Z 14 m = ry_ (co_ X) m 14 m := by rw [← co_at Z (f := 14) (by decide), hco]
    rw [← hco] at i1
    refine sX_retry_2 hG ⟨fun h => by omega, fun h => ⟨by omega, by omega, fun hne => ⟨by omega, ?_⟩, fun h0 => ⟨?_, ?_⟩⟩⟩
    · have q := ih (m + 1) Z (by omega) ?_
      · push_cast at q; exact q
      · show co_ Z = if ry_ (co_ X) m 14 m = 0 then pl_ (ry_ (co_ X) m) m else ry_ (co_ X) m
        rw [if_neg (by rw [← e14]; exact hne)]
        exact hco
    · refine plan_pre i1 (by omega) h ?_
      rcases i1.2 m (by omega) (by rw [co_at Z (by decide)]; exact h) with ⟨q, -⟩ | ⟨-, q⟩
      · exact q.elim
      · rcases q with q | q
        · have := q.1
          rw [co_at Z (by decide)] at this
          omega
        · exact q.2
    · rintro z1 Y1 ⟨hY, -⟩
      refine ⟨by omega, ?_⟩
      have q := ih (m + 1) Y1 (by omega) ?_
      · push_cast at q; exact q
      · show co_ Y1 = if ry_ (co_ X) m 14 m = 0 then pl_ (ry_ (co_ X) m) m else ry_ (co_ X) m
        rw [if_pos (by rw [← e14]; exact h0), hY, hco]
theorem vX_retry {X : St_}  (hX : rgX_ X) (hp : pX_retry  X) {G : Nat → Lo_ → List Vl_ → St_ → Prop} (hG : Clo_ mX_retry (qX_retry  X) G) : G 0 [some (.inr 25)] [] X := by
  exact sX_retry_0 hG (lX_retry hp hG (X 9 0).toNat 0 X (by omega) rfl)
theorem ckX_retry : ∀ q ∈ mX_retry.2.1, Ck_ 0 RX0 LX 7 q.1 q.2 := List.forall_mem_cons.mpr ⟨⟨yX0_plan, cX0_plan, 8, 6, okX_plan, by decide, by decide, by decide +kernel, rfl, ⟨by decide, by decide⟩, lw_V q138 q140 qs1 q33 q141⟩, fun _ h => absurd h List.not_mem_nil⟩
theorem okX_retry : Cn_ 0 LX yX0_retry cX0_retry 2 7 csX_retry := by
  refine Cn_of mX_retry KlX hfX (by decide +kernel) rfl rfl rfl hX_retry ckX_retry (Or.inl (by decide)) ?_
  intro as X hl hr hX hp G hG
  match as, hl with
  | [], _ => exact vX_retry  hX hp hG
def ctOK_ (e s t : Int) : Prop := (0 ≤ e ∧ e < 36 ∧ e / 6 ≠ e % 6) ∧ (0 ≤ s ∧ s < 10201 ∧ s / 101 < s % 101) ∧ (10 ≤ t ∧ t < 100)
/-- what contact answers, and does -/
def Ct_ (X : St_) (e s t z : Int) (Y : St_) : Prop := (ctOK_ e s t ∧ X 0 0 < 10 ∧ z = X 0 0 ∧ Y = ry_ (nc_ X e s t) (X 9 0).toNat) ∨ (ctOK_ e s t ∧ 10 ≤ X 0 0 ∧ z = -3 ∧ Y = X) ∨ (¬ ctOK_ e s t ∧ z = -1 ∧ Y = X)
theorem co_nc (X : St_) (e s t : Int) : co_ (nc_ X e s t) = nc_ (co_ X) e s t := by
  unfold nc_
  rw [co_up _ _ _ (by decide), co_up _ _ _ (by decide), co_up _ _ _ (by decide), co_up _ _ _ (by decide), co_up _ _ _ (by decide), co_up _ _ _ (by decide), co_up _ _ _ (by decide), co_at X (f := 0) (by decide)]
def pX_contact (e s t : Int) (X : St_) : Prop := IV_ (co_ X) (fun _ => False)
def qX_contact (e s t : Int) (X : St_) (z : Int) (Y : St_) : Prop := Ct_ (co_ X) e s t z (co_ Y)
def csX_contact : Cs_ := (3, false, 1, (fun as X => match as with
  | [a, b, c] => pX_contact a b c X
  | _ => False), (fun as X z Y => match as with
  | [a, b, c] => qX_contact a b c X z Y
  | _ => False))
def mX_contact : Mt_ := (LX, [(130, csX_areEnds), (134, csX_isSpan), (137, csX_areTerms), (140, csX_retry)], 1, EX_contact)
set_option maxRecDepth 100000 in
theorem sX_contact_0 {Rt : Int → St_ → Prop} {G : Nat → Lo_ → List Vl_ → St_ → Prop} (hG : Clo_ mX_contact Rt G) {X : St_} {e s t : Int} (h : pX_areEnds e X ∧ (∀ (z1 : Int) (Y1 : St_), qX_areEnds e X z1 Y1 → (z1 = 0 → Rt (-1) Y1) ∧ (¬ z1 = 0 → pX_isSpan s Y1 ∧ (∀ (z2 : Int) (Y2 : St_), qX_isSpan s Y1 z2 Y2 → (z2 = 0 → Rt (-1) Y2) ∧ (¬ z2 = 0 → pX_areTerms t Y2 ∧ (∀ (z3 : Int) (Y3 : St_), qX_areTerms t Y2 z3 Y3 → (¬ z3 = 0 → (Y3 0 0 < 10 → zR ((Y3 0 0) + 1) ∧ 0 ≤ e ∧ 0 < (6 : Int) ∧ 0 ≤ Y3 0 0 ∧ Y3 0 0 < 10 ∧ 0 ≤ e ∧ 0 < (6 : Int) ∧ 0 ≤ Y3 0 0 ∧ Y3 0 0 < 10 ∧ 0 ≤ s ∧ 0 < (101 : Int) ∧ 0 ≤ Y3 0 0 ∧ Y3 0 0 < 10 ∧ 0 ≤ s ∧ 0 < (101 : Int) ∧ 0 ≤ Y3 0 0 ∧ Y3 0 0 < 10 ∧ 0 ≤ t ∧ 0 < (10 : Int) ∧ 0 ≤ Y3 0 0 ∧ Y3 0 0 < 10 ∧ 0 ≤ t ∧ 0 < (10 : Int) ∧ 0 ≤ Y3 0 0 ∧ Y3 0 0 < 10 ∧ pX_retry  (up_ (up_ (up_ (up_ (up_ (up_ (up_ Y3 0 0 ((Y3 0 0) + 1)) 2 (Y3 0 0) (e / 6)) 3 (Y3 0 0) (e % 6)) 4 (Y3 0 0) (s / 101)) 5 (Y3 0 0) (s % 101)) 6 (Y3 0 0) (t / 10)) 7 (Y3 0 0) (t % 10)) ∧ (∀ (z4 : Int) (Y4 : St_), qX_retry  (up_ (up_ (up_ (up_ (up_ (up_ (up_ Y3 0 0 ((Y3 0 0) + 1)) 2 (Y3 0 0) (e / 6)) 3 (Y3 0 0) (e % 6)) 4 (Y3 0 0) (s / 101)) 5 (Y3 0 0) (s % 101)) 6 (Y3 0 0) (t / 10)) 7 (Y3 0 0) (t % 10)) z4 Y4 → Rt (Y3 0 0) Y4)) ∧ (10 ≤ Y3 0 0 → Rt (-3) Y3)) ∧ (z3 = 0 → Rt (-1) Y3))))))) : G 0 [some (.inr 25), some (.inl e), some (.inl s), some (.inl t)] [] X := run_ hG [] 68 0 _ _ X h
theorem vX_contact {e s t : Int} {X : St_} (r1 : zR e) (r2 : zR s) (r3 : zR t) (hX : rgX_ X) (hp : pX_contact e s t X) {G : Nat → Lo_ → List Vl_ → St_ → Prop} (hG : Clo_ mX_contact (qX_contact e s t X) G) : G 0 [some (.inr 25), some (.inl e), some (.inl s), some (.inl t)] [] X := by
  have e0 : co_ X 0 0 = X 0 0 := by rw [co_at X (by decide)]
  have e9 : co_ X 9 0 = X 9 0 := by rw [co_at X (by decide)]
  have hn0 := hp.1.1.1.1
  rw [e0] at hn0
  refine sX_contact_0 hG ⟨trivial, ?_⟩
  rintro z1 Y1 ⟨rfl, hz1, hi1⟩
  refine ⟨fun h => Or.inr (Or.inr ⟨fun q => by have := hi1.mpr q.1; omega, rfl, rfl⟩), fun h => ⟨trivial, ?_⟩⟩
  have k1 := hi1.mp (by omega)
  rintro z2 Y2 ⟨rfl, hz2, hi2⟩
  refine ⟨fun h => Or.inr (Or.inr ⟨fun q => by have := hi2.mpr q.2.1; omega, rfl, rfl⟩), fun h => ⟨trivial, ?_⟩⟩
  have k2 := hi2.mp (by omega)
  rintro z3 Y3 ⟨rfl, hz3, hi3⟩
  refine ⟨fun h => ?_, fun h => Or.inr (Or.inr ⟨fun q => by have := hi3.mpr q.2.2; omega, rfl, rfl⟩)⟩
  have k3 := hi3.mp (by omega)
  have hOK : ctOK_ e s t := ⟨k1, k2, k3⟩
  refine ⟨fun hlt => ⟨by omega, by omega, by omega, by omega, by omega, by omega, by omega, by omega, by omega, by omega, by omega, by omega, by omega, by omega, by omega, by omega, by omega, by omega, by omega, by omega, by omega, by omega, by omega, by omega, by omega, ?_, ?_⟩, fun hge => Or.inr (Or.inl ⟨hOK, by rw [e0]; exact hge, rfl, rfl⟩)⟩
  · show IV_ (co_ (nc_ Y3 e s t)) _
    rw [co_nc]
    exact nc_IV hp (by rw [e0]; exact hlt) k1 k2 k3
  · rintro z4 Y4 hq
    have hq : co_ Y4 = ry_ (co_ (nc_ Y3 e s t)) (nc_ Y3 e s t 9 0).toNat := hq
    rw [co_nc, nc_ne _ _ _ _ (f := 9) (by decide)] at hq
    exact Or.inl ⟨hOK, by rw [e0]; exact hlt, e0.symm, by rw [e9]; exact hq⟩
theorem ckX_contact : ∀ q ∈ mX_contact.2.1, Ck_ 0 RX0 LX 8 q.1 q.2 := List.forall_mem_cons.mpr ⟨⟨yX0_areEnds, cX0_areEnds, 1, 0, okX_areEnds, by decide, by decide, by decide +kernel, rfl, ⟨by decide, by decide⟩, lw_S q125 q126 q33 q127⟩, List.forall_mem_cons.mpr ⟨⟨yX0_isSpan, cX0_isSpan, 1, 0, okX_isSpan, by decide, by decide, by decide +kernel, rfl, ⟨by decide, by decide⟩, lw_S q128 q129 q33 q130⟩, List.forall_mem_cons.mpr ⟨⟨yX0_areTerms, cX0_areTerms, 1, 0, okX_areTerms, by decide, by decide, by decide +kernel, rfl, ⟨by decide, by decide⟩, lw_S q131 q132 q33 q133⟩, List.forall_mem_cons.mpr ⟨⟨yX0_retry, cX0_retry, 2, 7, okX_retry, by decide, by decide, by decide +kernel, rfl, ⟨by decide, by decide⟩, lw_V q134 q136 qs0 q33 q137⟩, fun _ h => absurd h List.not_mem_nil⟩⟩⟩⟩
theorem okX_contact : Cn_ 0 LX yX0_contact cX0_contact 5 8 csX_contact := by
  refine Cn_of mX_contact KlX hfX (by decide +kernel) rfl rfl rfl hX_contact ckX_contact (Or.inl (by decide)) ?_
  intro as X hl hr hX hp G hG
  match as, hl with
  | [a, b, c], _ => exact vX_contact (hr _ (by simp)) (hr _ (by simp)) (hr _ (by simp)) hX hp hG
def pX_openBooking (b k : Int) (X : St_) : Prop := gOK_ X ∧ 0 ≤ b ∧ b < X 9 0 ∧ 0 ≤ k ∧ k < X 0 0
def qX_openBooking (b k : Int) (X : St_) (z : Int) (Y : St_) : Prop := Y = X ∧ z = ob_ X b k
def csX_openBooking : Cs_ := (2, false, 1, (fun as X => match as with
  | [a, b] => pX_openBooking a b X
  | _ => False), (fun as X z Y => match as with
  | [a, b] => qX_openBooking a b X z Y
  | _ => False))
def mX_openBooking : Mt_ := (LX, [(79, csX_ticksFor)], 1, EX_openBooking)
set_option maxRecDepth 100000 in
theorem sX_openBooking_0 {Rt : Int → St_ → Prop} {G : Nat → Lo_ → List Vl_ → St_ → Prop} (hG : Clo_ mX_openBooking Rt G) {X : St_} {b k : Int} (h : G 2 [some (.inr 25), some (.inl b), some (.inl k), some (.inl 0)] [] X) : G 0 [some (.inr 25), some (.inl b), some (.inl k)] [] X := run_ hG [(2, 4)] 2 0 _ _ X h
set_option maxRecDepth 100000 in
theorem sX_openBooking_2 {Rt : Int → St_ → Prop} {G : Nat → Lo_ → List Vl_ → St_ → Prop} (hG : Clo_ mX_openBooking Rt G) {X : St_} {b k i : Int} (h : 0 ≤ b ∧ b < 10 ∧ (X 16 b ≤ i → Rt (-1) X) ∧ (i < X 16 b → zR (100 * b) ∧ zR ((100 * b) + i) ∧ 0 ≤ (100 * b) + i ∧ (100 * b) + i < 1000 ∧ 0 ≤ b ∧ b < 10 ∧ pX_ticksFor k (X 12 b) X ∧ (∀ (z1 : Int) (Y1 : St_), qX_ticksFor k (X 12 b) X z1 Y1 → zR ((X 18 ((100 * b) + i)) + z1) ∧ ((X 18 ((100 * b) + i)) + z1 ≤ Y1 19 0 → zR (100 * b) ∧ zR ((100 * b) + i) ∧ 0 ≤ (100 * b) + i ∧ (100 * b) + i < 1000 ∧ (¬ Y1 17 ((100 * b) + i) = k → zR (i + 1) ∧ G 2 [some (.inr 25), some (.inl b), some (.inl k), some (.inl (i + 1))] [] Y1) ∧ (Y1 17 ((100 * b) + i) = k → ((0 : Int) = 0 → zR (i + 1) ∧ G 2 [some (.inr 25), some (.inl b), some (.inl k), some (.inl (i + 1))] [] Y1) ∧ (¬ (0 : Int) = 0 → Rt i Y1))) ∧ (Y1 19 0 < (X 18 ((100 * b) + i)) + z1 → zR (100 * b) ∧ zR ((100 * b) + i) ∧ 0 ≤ (100 * b) + i ∧ (100 * b) + i < 1000 ∧ (¬ Y1 17 ((100 * b) + i) = k → zR (i + 1) ∧ G 2 [some (.inr 25), some (.inl b), some (.inl k), some (.inl (i + 1))] [] Y1) ∧ (Y1 17 ((100 * b) + i) = k → ((1 : Int) = 0 → zR (i + 1) ∧ G 2 [some (.inr 25), some (.inl b), some (.inl k), some (.inl (i + 1))] [] Y1) ∧ (¬ (1 : Int) = 0 → Rt i Y1)))))) : G 2 [some (.inr 25), some (.inl b), some (.inl k), some (.inl i)] [] X := run_ hG [(2, 4)] 42 2 _ _ X h
theorem lX_openBooking {b k : Int} {X : St_} (hp : pX_openBooking b k X) {G : Nat → Lo_ → List Vl_ → St_ → Prop} (hG : Clo_ mX_openBooking (qX_openBooking b k X) G) :
    ∀ (d : Nat) (i : Int), X 16 b - i ≤ d → 0 ≤ i → i ≤ X 16 b → (∀ j, 0 ≤ j → j < i → ¬ (X 17 (100 * b + j) = k ∧ X 19 0 < X 18 (100 * b + j) + tk_ X k (X 12 b))) → G 2 [some (.inr 25), some (.inl b), some (.inl k), some (.inl i)] [] X := by
  obtain ⟨hg, h1, h2, h3, h4⟩ := hp
  have h9 := hg.2.2.1
  have hB := hg.2.2.2.2 b h1 h2
  have hB2 := hB.2.2.1
  have hn := hg.1.2.1
  have hk := hg.1.2.2 k h3 h4
  obtain ⟨d1, d2, d3, d4, d5, d6, d7, d8, d9, d10, d11⟩ := hk
  have hs1 := hB.1.2.2.2.2.2.1
  have hs2 := hB.1.2.2.2.2.2.2
  have ht := tk_pos (X := X) (k := k) (size := X 12 b) d8 hs1
  have ht2 := tk_le (X := X) (k := k) (size := X 12 b) d8 hs1
  have fin : ∀ i, X 16 b ≤ i → (∀ j, 0 ≤ j → j < i → ¬ (X 17 (100 * b + j) = k ∧ X 19 0 < X 18 (100 * b + j) + tk_ X k (X 12 b))) → qX_openBooking b k X (-1) X := by
    intro i hi hno
    exact ⟨rfl, (lst_none fun j hj => hno j hj.1 (by omega) hj.2.2).symm⟩
  intro d
  induction d with
  | zero =>
    intro i hd h0 hle hno
    exact sX_openBooking_2 hG ⟨h1, by omega, fun h => fin i h hno, fun h => by omega⟩
  | succ d ih =>
    intro i hd h0 hle hno
    refine sX_openBooking_2 hG ⟨h1, by omega, fun h => fin i h hno, fun h => ⟨by omega, by omega, by omega, by omega, h1, by omega, ⟨h3, by omega, hs1, hs2, d8, d9⟩, ?_⟩⟩
    have hcb := cb_bound hg (b := b) (i := i) ⟨h1, h2, h0, h⟩
    rintro z1 Y1 ⟨rfl, rfl⟩
    have next : (¬ (Y1 17 (100 * b + i) = k ∧ Y1 19 0 < Y1 18 (100 * b + i) + tk_ Y1 k (Y1 12 b))) → G 2 [some (.inr 25), some (.inl b), some (.inl k), some (.inl (i + 1))] [] Y1 := by
      intro hn
      refine ih (i + 1) (by omega) (by omega) (by omega) (fun j j0 j1 => ?_)
      by_cases ej : j = i
      · rw [ej]; exact hn
      · exact hno j j0 (by omega)
    refine ⟨by omega, fun hle => ⟨by omega, by omega, by omega, by omega, fun hne => ⟨by omega, next (fun q => hne q.1)⟩, fun he => ⟨fun _ => ⟨by omega, next (fun q => by omega)⟩, fun q => absurd rfl q⟩⟩, fun hgt => ⟨by omega, by omega, by omega, by omega, fun hne => ⟨by omega, next (fun q => hne q.1)⟩, fun he => ⟨fun q => by omega, fun _ => ⟨rfl, ?_⟩⟩⟩⟩
    refine (lst_eq ⟨h0, h, he, hgt⟩ fun j hj => ?_).symm
    apply Int.not_lt.mp
    intro hlt
    exact hno j hj.1 hlt hj.2.2
theorem vX_openBooking {b k : Int} {X : St_} (r1 : zR b) (r2 : zR k) (hX : rgX_ X) (hp : pX_openBooking b k X) {G : Nat → Lo_ → List Vl_ → St_ → Prop} (hG : Clo_ mX_openBooking (qX_openBooking b k X) G) : G 0 [some (.inr 25), some (.inl b), some (.inl k)] [] X := by
  have hB := (hp.1.2.2.2.2 b hp.2.1 hp.2.2.1).2.2.1
  exact sX_openBooking_0 hG (lX_openBooking hp hG (X 16 b).toNat 0 (by omega) (by omega) (by omega) (fun j j0 j1 => by omega))
theorem ckX_openBooking : ∀ q ∈ mX_openBooking.2.1, Ck_ 0 RX0 LX 1 q.1 q.2 := List.forall_mem_cons.mpr ⟨⟨yX0_ticksFor, cX0_ticksFor, 3, 0, okX_ticksFor, by decide, by decide, by decide +kernel, rfl, ⟨by decide, by decide⟩, lw_V q146 q148 qs3 q33 q149⟩, fun _ h => absurd h List.not_mem_nil⟩
theorem okX_openBooking : Cn_ 0 LX yX0_openBooking cX0_openBooking 5 1 csX_openBooking := by
  refine Cn_of mX_openBooking KlX hfX (by decide +kernel) rfl rfl rfl hX_openBooking ckX_openBooking (Or.inl (by decide)) ?_
  intro as X hl hr hX hp G hG
  match as, hl with
  | [a, b], _ => exact vX_openBooking (hr _ (by simp)) (hr _ (by simp)) hX hp hG
def pX_loseFrom (b i : Int) (X : St_) : Prop := gOK_ X ∧ 0 ≤ b ∧ b < X 9 0 ∧ 0 ≤ i ∧ i < X 16 b
def qX_loseFrom (b i : Int) (X : St_) (_ : Int) (Y : St_) : Prop := Y = ls_ X b i
def csX_loseFrom : Cs_ := (2, false, 0, (fun as X => match as with
  | [a, b] => pX_loseFrom a b X
  | _ => False), (fun as X z Y => match as with
  | [a, b] => qX_loseFrom a b X z Y
  | _ => False))
def mX_loseFrom : Mt_ := (LX, [(79, csX_ticksFor), (119, csX_setBusy)], 0, EX_loseFrom)
set_option maxRecDepth 100000 in
theorem sX_loseFrom_0 {Rt : Int → St_ → Prop} {G : Nat → Lo_ → List Vl_ → St_ → Prop} (hG : Clo_ mX_loseFrom Rt G) {X : St_} {b i : Int} (h : G 2 [some (.inr 25), some (.inl b), some (.inl i), some (.inl i)] [] X) : G 0 [some (.inr 25), some (.inl b), some (.inl i)] [] X := run_ hG [(2, 4)] 2 0 _ _ X h
set_option maxRecDepth 100000 in
theorem sX_loseFrom_2 {Rt : Int → St_ → Prop} {G : Nat → Lo_ → List Vl_ → St_ → Prop} (hG : Clo_ mX_loseFrom Rt G) {X : St_} {b i j : Int} (h : 0 ≤ b ∧ b < 10 ∧ (X 16 b ≤ j → 0 ≤ b ∧ b < 10 ∧ Rt 0 (up_ X 16 b i)) ∧ (j < X 16 b → zR (100 * b) ∧ zR ((100 * b) + j) ∧ 0 ≤ (100 * b) + j ∧ (100 * b) + j < 1000 ∧ 0 ≤ b ∧ b < 10 ∧ pX_ticksFor (X 17 ((100 * b) + j)) (X 12 b) X ∧ (∀ (z1 : Int) (Y1 : St_), qX_ticksFor (X 17 ((100 * b) + j)) (X 12 b) X z1 Y1 → zR (100 * b) ∧ zR ((100 * b) + j) ∧ 0 ≤ (100 * b) + j ∧ (100 * b) + j < 1000 ∧ pX_setBusy (X 17 ((100 * b) + j)) (Y1 18 ((100 * b) + j)) z1 0 Y1 ∧ (∀ (z2 : Int) (Y2 : St_), qX_setBusy (X 17 ((100 * b) + j)) (Y1 18 ((100 * b) + j)) z1 0 Y1 z2 Y2 → zR (j + 1) ∧ G 2 [some (.inr 25), some (.inl b), some (.inl i), some (.inl (j + 1))] [] Y2)))) : G 2 [some (.inr 25), some (.inl b), some (.inl i), some (.inl j)] [] X := run_ hG [(2, 4)] 38 2 _ _ X h
theorem lX_loseFrom {b i : Int} {X : St_} (hp : pX_loseFrom b i X) {G : Nat → Lo_ → List Vl_ → St_ → Prop} (hG : Clo_ mX_loseFrom (qX_loseFrom b i X) G) :
    ∀ (d : Nat) (j : Int) (Z : St_), X 16 b - j = d → 0 ≤ j → (∀ f, f ≠ 8 → Z f = X f) → lz_ b d j Z = lz_ b (X 16 b - i).toNat i X → G 2 [some (.inr 25), some (.inl b), some (.inl i), some (.inl j)] [] Z := by
  obtain ⟨hg, h1, h2, h3, h4⟩ := hp
  have h9 := hg.2.2.1
  have hB := hg.2.2.2.2 b h1 h2
  have hB2 := hB.2.2.1
  have hn := hg.1.2.1
  intro d
  induction d with
  | zero =>
    intro j Z hd h0 hf hz
    have e16 : Z 16 = X 16 := hf 16 (by decide)
    refine sX_loseFrom_2 hG ⟨h1, by omega, fun h => ⟨h1, by omega, ?_⟩, fun h => by rw [e16] at h; omega⟩
    show up_ Z 16 b i = ls_ X b i
    unfold ls_
    rw [← hz]
    rfl
  | succ d ih =>
    intro j Z hd h0 hf hz
    have e16 : Z 16 = X 16 := hf 16 (by decide)
    have e17 : Z 17 = X 17 := hf 17 (by decide)
    have e18 : Z 18 = X 18 := hf 18 (by decide)
    have e12 : Z 12 = X 12 := hf 12 (by decide)
    have e6 : Z 6 = X 6 := hf 6 (by decide)
    have hcb := cb_bound hg (b := b) (i := j) ⟨h1, h2, h0, by omega⟩
    obtain ⟨a1, a2, a3, a4, -⟩ := hB.2.2.2 j h0 (by omega)
    obtain ⟨c1, c2, c3, c4, c5, c6, c7, c8⟩ := hcb
    obtain ⟨d1, d2, d3, d4, d5, d6, d7, d8, d9, d10, d11⟩ := c8
    have htk : tk_ Z (Z 17 (100 * b + j)) (Z 12 b) = tk_ X (X 17 (100 * b + j)) (X 12 b) := by unfold tk_; rw [e6, e17, e12]
    refine sX_loseFrom_2 hG ⟨h1, by omega, fun h => by rw [e16] at h; omega, fun h => ⟨by omega, by omega, by omega, by omega, h1, by omega, ?_, ?_⟩⟩
    · refine ⟨by rw [e17]; exact a1, by rw [e17]; omega, by rw [e12]; exact hB.1.2.2.2.2.2.1, by rw [e12]; exact hB.1.2.2.2.2.2.2, by rw [e6, e17]; exact d8, by rw [e6, e17]; exact d9⟩
    · rintro z1 Y1 ⟨rfl, rfl⟩
      refine ⟨by omega, by omega, by omega, by omega, ⟨by rw [e17]; exact a1, by rw [e17]; omega, by rw [e18]; omega, by rw [htk]; omega, by rw [htk, e18]; omega, Or.inl rfl⟩, ?_⟩
      rintro z2 Y2 rfl
      refine ⟨by omega, ih (j + 1) _ (by omega) (by omega) (fun f hf8 => ?_) ?_⟩
      · rw [sb_ne _ _ _ _ _ hf8]
        exact hf f hf8
      · exact hz
theorem vX_loseFrom {b i : Int} {X : St_} (r1 : zR b) (r2 : zR i) (hX : rgX_ X) (hp : pX_loseFrom b i X) {G : Nat → Lo_ → List Vl_ → St_ → Prop} (hG : Clo_ mX_loseFrom (qX_loseFrom b i X) G) : G 0 [some (.inr 25), some (.inl b), some (.inl i)] [] X := by
  have h4 := hp.2.2.2
  exact sX_loseFrom_0 hG (lX_loseFrom hp hG (X 16 b - i).toNat i X (by omega) (by omega) (fun _ _ => rfl) rfl)
theorem ckX_loseFrom : ∀ q ∈ mX_loseFrom.2.1, Ck_ 0 RX0 LX 1 q.1 q.2 := List.forall_mem_cons.mpr ⟨⟨yX0_ticksFor, cX0_ticksFor, 3, 0, okX_ticksFor, by decide, by decide, by decide +kernel, rfl, ⟨by decide, by decide⟩, lw_V q146 q148 qs3 q33 q149⟩, List.forall_mem_cons.mpr ⟨⟨yX0_setBusy, cX0_setBusy, 6, 0, okX_setBusy, by decide, by decide, by decide +kernel, rfl, ⟨by decide, by decide⟩, lw_V q179 q181 qs11 q33 q182⟩, fun _ h => absurd h List.not_mem_nil⟩⟩
theorem okX_loseFrom : Cn_ 0 LX yX0_loseFrom cX0_loseFrom 6 1 csX_loseFrom := by
  refine Cn_of mX_loseFrom KlX hfX (by decide +kernel) rfl rfl rfl hX_loseFrom ckX_loseFrom (Or.inl (by decide)) ?_
  intro as X hl hr hX hp G hG
  match as, hl with
  | [a, b], _ => exact vX_loseFrom (hr _ (by simp)) (hr _ (by simp)) hX hp hG
end
section
/-! THE COMPONENT's OPERATIONS: cancel, send, pass, time -/
theorem co_ob (X : St_) (b k : Int) : ob_ (co_ X) b k = ob_ X b k := by
  unfold ob_
  rw [co_at X (f := 16) (by decide), co_at X (f := 17) (by decide), co_at X (f := 18) (by decide), co_at X (f := 19) (by decide), co_at X (f := 12) (by decide)]
  simp only [co_tk]
theorem co_lz {b : Int} : ∀ (n : Nat) (j : Int) (Z : St_), co_ (lz_ b n j Z) = lz_ b n j (co_ Z) := by
  intro n
  induction n with
  | zero => intro j Z; rfl
  | succ n ih =>
    intro j Z
    show co_ (lz_ b n (j + 1) _) = lz_ b n (j + 1) _
    rw [ih, sb_co, co_tk, co_at Z (f := 17) (by decide), co_at Z (f := 18) (by decide), co_at Z (f := 12) (by decide)]
theorem co_ls (X : St_) (b i : Int) : co_ (ls_ X b i) = ls_ (co_ X) b i := by
  unfold ls_
  rw [co_up _ _ _ (by decide), co_lz, co_at X (f := 16) (by decide)]
/-- what cancel answers, and does -/
def Ca_ (X : St_) (k z : Int) (Y : St_) : Prop := ((0 ≤ k ∧ k < X 0 0 ∧ X 1 k = 0) ∧ z = nh_ (up_ X 1 k 1) k (X 9 0).toNat ∧ Y = ca_ X k) ∨ (¬ (0 ≤ k ∧ k < X 0 0 ∧ X 1 k = 0) ∧ z = -1 ∧ Y = X)
theorem nh_bound (X : St_) (k : Int) (m : Nat) : 0 ≤ nh_ X k m ∧ nh_ X k m ≤ m := by
  unfold nh_
  constructor
  · refine sm_nonneg m (fun q _ _ => ?_)
    split <;> omega
  · have := sm_le (f := fun b => if 0 ≤ ob_ X b k then 1 else 0) (c := 1) m (fun q _ _ => by split <;> omega)
    omega
def pX_cancel (k : Int) (X : St_) : Prop := IV_ (co_ X) (fun _ => False)
def qX_cancel (k : Int) (X : St_) (z : Int) (Y : St_) : Prop := Ca_ (co_ X) k z (co_ Y)
def csX_cancel : Cs_ := (1, false, 1, (fun as X => match as with
  | [a] => pX_cancel a X
  | _ => False), (fun as X z Y => match as with
  | [a] => qX_cancel a X z Y
  | _ => False))
def mX_cancel : Mt_ := (LX, [(143, csX_isContact), (146, csX_openBooking), (149, csX_loseFrom), (126, csX_plan), (140, csX_retry)], 1, EX_cancel)
set_option maxRecDepth 100000 in
theorem sX_cancel_0 {Rt : Int → St_ → Prop} {G : Nat → Lo_ → List Vl_ → St_ → Prop} (hG : Clo_ mX_cancel Rt G) {X : St_} {k : Int} (h : pX_isContact k X ∧ (∀ (z1 : Int) (Y1 : St_), qX_isContact k X z1 Y1 → (z1 = 0 → Rt (-1) Y1) ∧ (¬ z1 = 0 → 0 ≤ k ∧ k < 10 ∧ (Y1 1 k = 0 → 0 ≤ k ∧ k < 10 ∧ ((1 : Int) = 0 ∨ (1 : Int) = 1) ∧ G 30 [some (.inr 25), some (.inl k), some (.inl 0), some (.inl 0)] [] (up_ Y1 1 k 1)) ∧ (¬ Y1 1 k = 0 → Rt (-1) Y1)))) : G 0 [some (.inr 25), some (.inl k)] [] X := run_ hG [(30, 4), (85, 4)] 18 0 _ _ X h
set_option maxRecDepth 100000 in
theorem sX_cancel_30 {Rt : Int → St_ → Prop} {G : Nat → Lo_ → List Vl_ → St_ → Prop} (hG : Clo_ mX_cancel Rt G) {X : St_} {k n b : Int} (h : (X 9 0 ≤ b → G 85 [some (.inr 25), some (.inl k), some (.inl n), some (.inl 0)] [] X) ∧ (b < X 9 0 → pX_openBooking b k X ∧ (∀ (z1 : Int) (Y1 : St_), qX_openBooking b k X z1 Y1 → (z1 < 0 → 0 ≤ b ∧ b < 10 ∧ ((0 : Int) = 0 ∨ (0 : Int) = 1) ∧ (z1 < 0 → zR (b + 1) ∧ G 30 [some (.inr 25), some (.inl k), some (.inl n), some (.inl (b + 1))] [] (up_ Y1 15 b 0)) ∧ (0 ≤ z1 → pX_loseFrom b z1 (up_ Y1 15 b 0) ∧ (∀ (z2 : Int) (Y2 : St_), qX_loseFrom b z1 (up_ Y1 15 b 0) z2 Y2 → zR (n + 1) ∧ zR (b + 1) ∧ G 30 [some (.inr 25), some (.inl k), some (.inl (n + 1)), some (.inl (b + 1))] [] Y2))) ∧ (0 ≤ z1 → 0 ≤ b ∧ b < 10 ∧ ((1 : Int) = 0 ∨ (1 : Int) = 1) ∧ (z1 < 0 → zR (b + 1) ∧ G 30 [some (.inr 25), some (.inl k), some (.inl n), some (.inl (b + 1))] [] (up_ Y1 15 b 1)) ∧ (0 ≤ z1 → pX_loseFrom b z1 (up_ Y1 15 b 1) ∧ (∀ (z3 : Int) (Y3 : St_), qX_loseFrom b z1 (up_ Y1 15 b 1) z3 Y3 → zR (n + 1) ∧ zR (b + 1) ∧ G 30 [some (.inr 25), some (.inl k), some (.inl (n + 1)), some (.inl (b + 1))] [] Y3)))))) : G 30 [some (.inr 25), some (.inl k), some (.inl n), some (.inl b)] [] X := run_ hG [(30, 4), (85, 4)] 26 30 _ _ X h
set_option maxRecDepth 100000 in
theorem sX_cancel_85 {Rt : Int → St_ → Prop} {G : Nat → Lo_ → List Vl_ → St_ → Prop} (hG : Clo_ mX_cancel Rt G) {X : St_} {k n b : Int} (h : (X 9 0 ≤ b → pX_retry  X ∧ (∀ (z1 : Int) (Y1 : St_), qX_retry  X z1 Y1 → Rt n Y1)) ∧ (b < X 9 0 → 0 ≤ b ∧ b < 10 ∧ (X 15 b = 0 → zR (b + 1) ∧ G 85 [some (.inr 25), some (.inl k), some (.inl n), some (.inl (b + 1))] [] X) ∧ (¬ X 15 b = 0 → pX_plan b X ∧ (∀ (z2 : Int) (Y2 : St_), qX_plan b X z2 Y2 → zR (b + 1) ∧ G 85 [some (.inr 25), some (.inl k), some (.inl n), some (.inl (b + 1))] [] Y2)))) : G 85 [some (.inr 25), some (.inl k), some (.inl n), some (.inl b)] [] X := run_ hG [(30, 4), (85, 4)] 14 85 _ _ X h
theorem lX_cancel85 {k : Int} {X S1 S2 : St_} {nb : Nat} {n : Int} (hnb : nb ≤ 10) {G : Nat → Lo_ → List Vl_ → St_ → Prop} (hG : Clo_ mX_cancel (qX_cancel k X) G) (hS : IV_ S2 (fun c => 0 ≤ ob_ S1 c k)) (h9 : S2 9 0 = nb)
    (hfin : ∀ Y, co_ Y = ry_ (hp_ S1 S2 k nb) nb → qX_cancel k X n Y) :
    ∀ (d m : Nat) (Z : St_), nb = m + d → co_ Z = hp_ S1 S2 k m → (∀ c : Int, 0 ≤ c → c < nb → Z 15 c = if 0 ≤ ob_ S1 c k then 1 else 0) → G 85 [some (.inr 25), some (.inl k), some (.inl n), some (.inl (m : Int))] [] Z := by
  intro d
  induction d with
  | zero =>
    intro m Z hm hco h15
    have hm : m = nb := by omega
    subst hm
    obtain ⟨p1, p2⟩ := hp_IV (X := S1) (k := k) hS m (by omega)
    have e9 : hp_ S1 S2 k m 9 0 = m := by rw [p2 9 (by decide) (by decide) (by decide) (by decide) (by decide), h9]
    have z9 : Z 9 0 = m := by rw [← co_at Z (f := 9) (by decide), hco, e9]
    refine sX_cancel_85 hG ⟨fun _ => ⟨?_, ?_⟩, fun h => by omega⟩
    · show IV_ (co_ Z) _
      rw [hco]
      exact IV_congr p1 (fun c hc0 hc1 => ⟨fun q => by omega, fun q => q.elim⟩)
    · rintro z1 Y1 hq
      have hq : co_ Y1 = ry_ (co_ Z) (Z 9 0).toNat := hq
      rw [hco, z9] at hq
      exact hfin Y1 hq
  | succ d ih =>
    intro m Z hm hco h15
    obtain ⟨p1, p2⟩ := hp_IV (X := S1) (k := k) hS m (by omega)
    have e9 : hp_ S1 S2 k m 9 0 = nb := by rw [p2 9 (by decide) (by decide) (by decide) (by decide) (by decide), h9]
    have z9 : Z 9 0 = nb := by rw [← co_at Z (f := 9) (by decide), hco, e9]
    have hv := h15 m (by omega) (by omega)
    rw [← hco] at p1
    refine sX_cancel_85 hG ⟨fun h => by omega, fun h => ⟨by omega, by omega, fun he => ⟨by omega, ?_⟩, fun hne => ⟨?_, ?_⟩⟩⟩
    · have hob : ¬ 0 ≤ ob_ S1 m k := by
        intro q
        rw [if_pos q] at hv
        omega
      have q := ih (m + 1) Z (by omega) (by show co_ Z = if 0 ≤ ob_ S1 m k then _ else _; rw [if_neg hob]; exact hco) h15
      push_cast at q
      exact q
    · have hob : 0 ≤ ob_ S1 m k := by
        apply Classical.byContradiction
        intro q
        rw [if_neg q] at hv
        omega
      refine plan_pre p1 (by omega) h ?_
      rcases p1.2 m (by omega) (by rw [co_at Z (by decide)]; exact h) with ⟨-, q⟩ | ⟨q, -⟩
      · exact q
      · exact absurd ⟨by omega, hob⟩ q
    · have hob : 0 ≤ ob_ S1 m k := by
        apply Classical.byContradiction
        intro q
        rw [if_neg q] at hv
        omega
      rintro z2 Y2 ⟨hq, hq15⟩
      refine ⟨by omega, ?_⟩
      have q := ih (m + 1) Y2 (by omega) (by show co_ Y2 = if 0 ≤ ob_ S1 m k then pl_ (hp_ S1 S2 k m) m else _; rw [if_pos hob, hq, hco]) (by rw [hq15]; exact h15)
      push_cast at q
      exact q
theorem lX_cancel30 {k : Int} {X S1 : St_} {nb : Nat} (hnb : nb ≤ 10) {G : Nat → Lo_ → List Vl_ → St_ → Prop} (hG : Clo_ mX_cancel (qX_cancel k X) G) (hk0 : 0 ≤ k) (hk1 : k < S1 0 0) (hJ : J_ S1) (hr : ∀ b, 0 ≤ b → b < S1 9 0 → rOK_ S1 b ∧ S1 16 b ≤ 5 * cc_ S1) (h9 : S1 9 0 = nb)
    (hfin : ∀ Y, co_ Y = ry_ (hp_ S1 (lc_ S1 k nb) k nb) nb → qX_cancel k X (nh_ S1 k nb) Y) :
    ∀ (d m : Nat) (Z : St_), nb = m + d → co_ Z = lc_ S1 k m → (∀ c : Int, 0 ≤ c → c < m → Z 15 c = if 0 ≤ ob_ S1 c k then 1 else 0) → G 30 [some (.inr 25), some (.inl k), some (.inl (nh_ S1 k m)), some (.inl (m : Int))] [] Z := by
  intro d
  induction d with
  | zero =>
    intro m Z hm hco h15
    have hm : m = nb := by omega
    subst hm
    obtain ⟨l1, l2, -⟩ := lc_IV (k := k) hJ hr m (by omega)
    have e9 : lc_ S1 k m 9 0 = m := by rw [l2 9 (by decide) (by decide), h9]
    have z9 : Z 9 0 = m := by rw [← co_at Z (f := 9) (by decide), hco, e9]
    refine sX_cancel_30 hG ⟨fun _ => ?_, fun h => by omega⟩
    have q := lX_cancel85 (S1 := S1) (S2 := lc_ S1 k m) hnb hG (IV_congr l1 (fun c hc0 hc1 => ⟨fun q => q.2, fun q => ⟨by omega, q⟩⟩)) e9 hfin m 0 Z (by omega) hco h15
    exact q
  | succ d ih =>
    intro m Z hm hco h15
    obtain ⟨l1, l2, l3⟩ := lc_IV (k := k) hJ hr m (by omega)
    have e9 : lc_ S1 k m 9 0 = nb := by rw [l2 9 (by decide) (by decide), h9]
    have z9 : Z 9 0 = nb := by rw [← co_at Z (f := 9) (by decide), hco, e9]
    have z0 : Z 0 0 = S1 0 0 := by rw [← co_at Z (f := 0) (by decide), hco, l2 0 (by decide) (by decide)]
    have hg : gOK_ Z := co_gOK (by rw [hco]; exact l1.1.1)
    have hob : ob_ Z m k = ob_ S1 m k := by
      rw [← co_ob, hco]
      exact ob_eb (l3 m (by omega)) (by rw [l2 19 (by decide) (by decide)])
    have hnh := nh_bound S1 k m
    have hstep : ∀ v : Int, v = (if 0 ≤ ob_ S1 m k then 1 else 0) → ∀ c : Int, 0 ≤ c → c < ((m + 1 : Nat) : Int) → up_ Z 15 m v 15 c = if 0 ≤ ob_ S1 c k then 1 else 0 := by
      intro v hv c c0 c1
      push_cast at c1
      by_cases ec : c = m
      · rw [ec, up_at]; exact hv
      · rw [up_nei _ _ _ _ ec]
        exact h15 c c0 (by omega)
    refine sX_cancel_30 hG ⟨fun h => by omega, fun h => ⟨⟨hg, by omega, h, hk0, by omega⟩, ?_⟩⟩
    rintro z1 Y1 ⟨rfl, rfl⟩
    rw [hob]
    refine ⟨fun hlt => ⟨by omega, by omega, Or.inl rfl, fun _ => ⟨by omega, ?_⟩, fun q => by omega⟩, fun hge => ⟨by omega, by omega, Or.inr rfl, fun q => by omega, fun _ => ⟨?_, ?_⟩⟩⟩
    · have q := ih (m + 1) (up_ Y1 15 m 0) (by omega) (by rw [co_scr _ _ _ (by decide)]; show co_ Y1 = if 0 ≤ ob_ S1 m k then _ else _; rw [if_neg (by omega)]; exact hco) (hstep 0 (by rw [if_neg (by omega)]))
      have e : nh_ S1 k (m + 1) = nh_ S1 k m := by
        show nh_ S1 k m + (if 0 ≤ ob_ S1 m k then 1 else 0) = nh_ S1 k m
        rw [if_neg (by omega)]
        omega
      rw [e] at q
      push_cast at q
      exact q
    · have hi : ob_ S1 m k < S1 16 m := by
        rcases ob_cases S1 m k with ⟨q, -⟩ | ⟨q, -⟩
        · omega
        · exact q.2.1
      have e16 : Y1 16 m = S1 16 m := by rw [← co_at Y1 (f := 16) (by decide), hco]; exact (l3 m (by omega)).2.2.2.2.1
      refine ⟨co_gOK (by rw [co_scr _ _ _ (by decide), hco]; exact l1.1.1), by omega, by rw [up_ne _ _ _ _ (by decide)]; exact h, hge, by rw [up_ne _ _ _ _ (by decide), e16]; exact hi⟩
    · rintro z3 Y3 rfl
      refine ⟨by omega, by omega, ?_⟩
      have q := ih (m + 1) (ls_ (up_ Y1 15 m 1) m (ob_ S1 m k)) (by omega) (by rw [co_ls, co_scr _ _ _ (by decide), hco]; show _ = if 0 ≤ ob_ S1 m k then _ else _; rw [if_pos hge]) (by rw [ls_ne (by decide) (by decide)]; exact hstep 1 (by rw [if_pos hge]))
      have e : nh_ S1 k (m + 1) = nh_ S1 k m + 1 := by
        show nh_ S1 k m + (if 0 ≤ ob_ S1 m k then 1 else 0) = nh_ S1 k m + 1
        rw [if_pos hge]
      rw [e] at q
      push_cast at q
      exact q
theorem vX_cancel {k : Int} {X : St_} (r1 : zR k) (hX : rgX_ X) (hp : pX_cancel k X) {G : Nat → Lo_ → List Vl_ → St_ → Prop} (hG : Clo_ mX_cancel (qX_cancel k X) G) : G 0 [some (.inr 25), some (.inl k)] [] X := by
  have e0 : co_ X 0 0 = X 0 0 := by rw [co_at X (by decide)]
  have e1 : co_ X 1 k = X 1 k := by rw [co_at X (by decide)]
  have e9 : co_ X 9 0 = X 9 0 := by rw [co_at X (by decide)]
  have hn1 := hp.1.1.1.2.1
  have h9 := hp.1.1.2.2.1
  rw [e9] at h9
  rw [e0] at hn1
  refine sX_cancel_0 hG ⟨trivial, ?_⟩
  rintro z1 Y1 ⟨rfl, hz1, hi1⟩
  refine ⟨fun h => Or.inr ⟨fun q => by rw [e0] at q; have := hi1.mpr ⟨q.1, q.2.1⟩; omega, rfl, rfl⟩, fun h => ?_⟩
  have k1 := hi1.mp (by omega)
  refine ⟨k1.1, by omega, fun hc => ⟨k1.1, by omega, Or.inr rfl, ?_⟩, fun hc => Or.inr ⟨fun q => hc (by rw [← e1]; exact q.2.2), rfl, rfl⟩⟩
  have hc1 : co_ Y1 1 k = 0 := by rw [e1]; exact hc
  refine lX_cancel30 (S1 := up_ (co_ Y1) 1 k 1) (nb := (Y1 9 0).toNat) (by omega) hG k1.1 (by rw [up_ne _ _ _ _ (by decide), e0]; exact k1.2) (cf_J hp.1 k) (cf_rOK hp k1.1 (by omega) hc1) (by rw [up_ne _ _ _ _ (by decide), e9]; omega) ?_ (Y1 9 0).toNat 0 (up_ Y1 1 k 1) (by omega) (co_up _ _ _ (by decide)) (fun c c0 c1 => by omega)
  intro Y hY
  refine Or.inl ⟨⟨k1.1, by rw [e0]; exact k1.2, hc1⟩, by rw [e9], ?_⟩
  unfold ca_
  rw [e9]
  exact hY
theorem ckX_cancel : ∀ q ∈ mX_cancel.2.1, Ck_ 0 RX0 LX 8 q.1 q.2 := List.forall_mem_cons.mpr ⟨⟨yX0_isContact, cX0_isContact, 2, 0, okX_isContact, by decide, by decide, by decide +kernel, rfl, ⟨by decide, by decide⟩, lw_V q187 q189 qs12 q33 q190⟩, List.forall_mem_cons.mpr ⟨⟨yX0_openBooking, cX0_openBooking, 5, 1, okX_openBooking, by decide, by decide, by decide +kernel, rfl, ⟨by decide, by decide⟩, lw_V q191 q193 qs13 q33 q194⟩, List.forall_mem_cons.mpr ⟨⟨yX0_loseFrom, cX0_loseFrom, 6, 1, okX_loseFrom, by decide, by decide, by decide +kernel, rfl, ⟨by decide, by decide⟩, lw_V q195 q197 qs14 q33 q198⟩, List.forall_mem_cons.mpr ⟨⟨yX0_plan, cX0_plan, 8, 6, okX_plan, by decide, by decide, by decide +kernel, rfl, ⟨by decide, by decide⟩, lw_V q138 q140 qs1 q33 q141⟩, List.forall_mem_cons.mpr ⟨⟨yX0_retry, cX0_retry, 2, 7, okX_retry, by decide, by decide, by decide +kernel, rfl, ⟨by decide, by decide⟩, lw_V q134 q136 qs0 q33 q137⟩, fun _ h => absurd h List.not_mem_nil⟩⟩⟩⟩⟩
theorem okX_cancel : Cn_ 0 LX yX0_cancel cX0_cancel 5 8 csX_cancel := by
  refine Cn_of mX_cancel KlX hfX (by decide +kernel) rfl rfl rfl hX_cancel ckX_cancel (Or.inl (by decide)) ?_
  intro as X hl hr hX hp G hG
  match as, hl with
  | [a], _ => exact vX_cancel (hr _ (by simp)) hX hp hG
/-- what send answers, and does -/
def sdOK_ (e size : Int) : Prop := (0 ≤ e ∧ e < 36 ∧ e / 6 ≠ e % 6) ∧ (1 ≤ size ∧ size ≤ 30)
def Sd_ (X : St_) (e size lim z : Int) (Y : St_) : Prop := (sdOK_ e size ∧ X 9 0 < 10 ∧ z = X 9 0 ∧ Y = pl_ (sd_ X e size lim) (X 9 0)) ∨ (sdOK_ e size ∧ 10 ≤ X 9 0 ∧ z = -3 ∧ Y = X) ∨ (¬ sdOK_ e size ∧ z = -1 ∧ Y = X)
theorem co_sd (X : St_) (e size lim : Int) : co_ (sd_ X e size lim) = sd_ (co_ X) e size lim := by
  unfold sd_
  rw [co_up _ _ _ (by decide), co_up _ _ _ (by decide), co_up _ _ _ (by decide), co_up _ _ _ (by decide), co_up _ _ _ (by decide), co_up _ _ _ (by decide), co_at X (f := 9) (by decide)]
def pX_send (e size lim : Int) (X : St_) : Prop := IV_ (co_ X) (fun _ => False)
def qX_send (e size lim : Int) (X : St_) (z : Int) (Y : St_) : Prop := Sd_ (co_ X) e size lim z (co_ Y)
def csX_send : Cs_ := (3, false, 1, (fun as X => match as with
  | [a, b, c] => pX_send a b c X
  | _ => False), (fun as X z Y => match as with
  | [a, b, c] => qX_send a b c X z Y
  | _ => False))
def mX_send : Mt_ := (LX, [(130, csX_areEnds), (153, csX_isSize), (126, csX_plan)], 1, EX_send)
set_option maxRecDepth 100000 in
theorem sX_send_0 {Rt : Int → St_ → Prop} {G : Nat → Lo_ → List Vl_ → St_ → Prop} (hG : Clo_ mX_send Rt G) {X : St_} {e size lim : Int} (h : pX_areEnds e X ∧ (∀ (z1 : Int) (Y1 : St_), qX_areEnds e X z1 Y1 → (z1 = 0 → Rt (-1) Y1) ∧ (¬ z1 = 0 → pX_isSize size Y1 ∧ (∀ (z2 : Int) (Y2 : St_), qX_isSize size Y1 z2 Y2 → (¬ z2 = 0 → (Y2 9 0 < 10 → zR ((Y2 9 0) + 1) ∧ 0 ≤ e ∧ 0 < (6 : Int) ∧ 0 ≤ Y2 9 0 ∧ Y2 9 0 < 10 ∧ 0 ≤ e ∧ 0 < (6 : Int) ∧ 0 ≤ Y2 9 0 ∧ Y2 9 0 < 10 ∧ 0 ≤ Y2 9 0 ∧ Y2 9 0 < 10 ∧ 0 ≤ Y2 9 0 ∧ Y2 9 0 < 10 ∧ 0 ≤ Y2 9 0 ∧ Y2 9 0 < 10 ∧ pX_plan (Y2 9 0) (up_ (up_ (up_ (up_ (up_ (up_ Y2 9 0 ((Y2 9 0) + 1)) 10 (Y2 9 0) (e / 6)) 11 (Y2 9 0) (e % 6)) 12 (Y2 9 0) size) 13 (Y2 9 0) lim) 16 (Y2 9 0) 0) ∧ (∀ (z3 : Int) (Y3 : St_), qX_plan (Y2 9 0) (up_ (up_ (up_ (up_ (up_ (up_ Y2 9 0 ((Y2 9 0) + 1)) 10 (Y2 9 0) (e / 6)) 11 (Y2 9 0) (e % 6)) 12 (Y2 9 0) size) 13 (Y2 9 0) lim) 16 (Y2 9 0) 0) z3 Y3 → Rt (Y2 9 0) Y3)) ∧ (10 ≤ Y2 9 0 → Rt (-3) Y2)) ∧ (z2 = 0 → Rt (-1) Y2))))) : G 0 [some (.inr 25), some (.inl e), some (.inl size), some (.inl lim)] [] X := run_ hG [] 53 0 _ _ X h
theorem vX_send {e size lim : Int} {X : St_} (r1 : zR e) (r2 : zR size) (r3 : zR lim) (hX : rgX_ X) (hp : pX_send e size lim X) {G : Nat → Lo_ → List Vl_ → St_ → Prop} (hG : Clo_ mX_send (qX_send e size lim X) G) : G 0 [some (.inr 25), some (.inl e), some (.inl size), some (.inl lim)] [] X := by
  have e9 : co_ X 9 0 = X 9 0 := by rw [co_at X (by decide)]
  have h9 := hp.1.1.2.2.1
  rw [e9] at h9
  refine sX_send_0 hG ⟨trivial, ?_⟩
  rintro z1 Y1 ⟨rfl, hz1, hi1⟩
  refine ⟨fun h => Or.inr (Or.inr ⟨fun q => by have := hi1.mpr q.1; omega, rfl, rfl⟩), fun h => ⟨trivial, ?_⟩⟩
  have k1 := hi1.mp (by omega)
  rintro z2 Y2 ⟨rfl, hz2, hi2⟩
  refine ⟨fun h => ?_, fun h => Or.inr (Or.inr ⟨fun q => by have := hi2.mpr q.2; omega, rfl, rfl⟩)⟩
  have k2 := hi2.mp (by omega)
  have hOK : sdOK_ e size := ⟨k1, k2⟩
  refine ⟨fun hlt => ⟨by omega, by omega, by omega, by omega, by omega, by omega, by omega, by omega, by omega, by omega, by omega, by omega, by omega, by omega, by omega, ?_, ?_⟩, fun hge => Or.inr (Or.inl ⟨hOK, by rw [e9]; exact hge, rfl, rfl⟩)⟩
  · show pX_plan (Y2 9 0) (sd_ Y2 e size lim)
    obtain ⟨i1, i2⟩ := sd_IV hp (lim := lim) (by rw [e9]; exact hlt) k1 k2
    rw [← co_sd] at i1 i2
    rw [e9] at i2
    exact plan_pre i1 (by omega) (by rw [sd_9]; omega) i2
  · rintro z3 Y3 ⟨hq, -⟩
    have hq : co_ Y3 = pl_ (co_ (sd_ Y2 e size lim)) (Y2 9 0) := hq
    rw [co_sd] at hq
    exact Or.inl ⟨hOK, by rw [e9]; exact hlt, e9.symm, by rw [e9]; exact hq⟩
theorem ckX_send : ∀ q ∈ mX_send.2.1, Ck_ 0 RX0 LX 7 q.1 q.2 := List.forall_mem_cons.mpr ⟨⟨yX0_areEnds, cX0_areEnds, 1, 0, okX_areEnds, by decide, by decide, by decide +kernel, rfl, ⟨by decide, by decide⟩, lw_S q125 q126 q33 q127⟩, List.forall_mem_cons.mpr ⟨⟨yX0_isSize, cX0_isSize, 1, 0, okX_isSize, by decide, by decide, by decide +kernel, rfl, ⟨by decide, by decide⟩, lw_S q207 q208 q33 q209⟩, List.forall_mem_cons.mpr ⟨⟨yX0_plan, cX0_plan, 8, 6, okX_plan, by decide, by decide, by decide +kernel, rfl, ⟨by decide, by decide⟩, lw_V q138 q140 qs1 q33 q141⟩, fun _ h => absurd h List.not_mem_nil⟩⟩⟩
theorem okX_send : Cn_ 0 LX yX0_send cX0_send 5 7 csX_send := by
  refine Cn_of mX_send KlX hfX (by decide +kernel) rfl rfl rfl hX_send ckX_send (Or.inl (by decide)) ?_
  intro as X hl hr hX hp G hG
  match as, hl with
  | [a, b, c], _ => exact vX_send (hr _ (by simp)) (hr _ (by simp)) (hr _ (by simp)) hX hp hG
def Ps_ (X : St_) (n z : Int) (Y : St_) : Prop := (0 ≤ n ∧ n ≤ 200 ∧ z = X 19 0 + n ∧ Y = up_ X 19 0 (X 19 0 + n)) ∨ (¬ (0 ≤ n ∧ n ≤ 200) ∧ z = -1 ∧ Y = X)
def pX_pass (n : Int) (X : St_) : Prop := 0 ≤ X 19 0 ∧ X 19 0 ≤ 19800
def qX_pass (n : Int) (X : St_) (z : Int) (Y : St_) : Prop := Ps_ (co_ X) n z (co_ Y)
def csX_pass : Cs_ := (1, false, 1, (fun as X => match as with
  | [a] => pX_pass a X
  | _ => False), (fun as X z Y => match as with
  | [a] => qX_pass a X z Y
  | _ => False))
def mX_pass : Mt_ := (LX, [], 1, EX_pass)
set_option maxRecDepth 100000 in
theorem sX_pass_0 {Rt : Int → St_ → Prop} {G : Nat → Lo_ → List Vl_ → St_ → Prop} (hG : Clo_ mX_pass Rt G) {X : St_} {n : Int} (h : (n < 0 → Rt (-1) X) ∧ (0 ≤ n → (n ≤ 200 → zR ((X 19 0) + n) ∧ Rt ((up_ X 19 0 ((X 19 0) + n)) 19 0) (up_ X 19 0 ((X 19 0) + n))) ∧ (200 < n → Rt (-1) X))) : G 0 [some (.inr 25), some (.inl n)] [] X := run_ hG [] 14 0 _ _ X h
theorem vX_pass {n : Int} {X : St_} (r1 : zR n) (hX : rgX_ X) (hp : pX_pass n X) {G : Nat → Lo_ → List Vl_ → St_ → Prop} (hG : Clo_ mX_pass (qX_pass n X) G) : G 0 [some (.inr 25), some (.inl n)] [] X := by
  have e19 : co_ X 19 0 = X 19 0 := by rw [co_at X (by decide)]
  obtain ⟨h1, h2⟩ := hp
  refine sX_pass_0 hG ⟨fun h => Or.inr ⟨by omega, rfl, rfl⟩, fun h => ⟨fun h3 => ⟨by omega, Or.inl ⟨h, h3, by rw [up_at, e19], by rw [co_up _ _ _ (by decide), e19]⟩⟩, fun h3 => Or.inr ⟨by omega, rfl, rfl⟩⟩⟩
theorem ckX_pass : ∀ q ∈ mX_pass.2.1, Ck_ 0 RX0 LX 0 q.1 q.2 := fun _ h => absurd h List.not_mem_nil
theorem okX_pass : Cn_ 0 LX yX0_pass cX0_pass 2 0 csX_pass := by
  refine Cn_of mX_pass KlX hfX (by decide +kernel) rfl rfl rfl hX_pass ckX_pass (Or.inl (by decide)) ?_
  intro as X hl hr hX hp G hG
  match as, hl with
  | [a], _ => exact vX_pass (hr _ (by simp)) hX hp hG
def pX_time (_ : St_) : Prop := True
def qX_time (X : St_) (z : Int) (Y : St_) : Prop := z = co_ X 19 0 ∧ co_ Y = co_ X
def csX_time : Cs_ := (0, false, 1, (fun as X => match as with
  | [] => pX_time  X
  | _ => False), (fun as X z Y => match as with
  | [] => qX_time  X z Y
  | _ => False))
def mX_time : Mt_ := (LX, [], 1, EX_time)
set_option maxRecDepth 100000 in
theorem sX_time_0 {Rt : Int → St_ → Prop} {G : Nat → Lo_ → List Vl_ → St_ → Prop} (hG : Clo_ mX_time Rt G) {X : St_} (h : Rt (X 19 0) X) : G 0 [some (.inr 25)] [] X := run_ hG [] 3 0 _ _ X h
theorem vX_time {X : St_}  (hX : rgX_ X) (hp : pX_time  X) {G : Nat → Lo_ → List Vl_ → St_ → Prop} (hG : Clo_ mX_time (qX_time  X) G) : G 0 [some (.inr 25)] [] X := by
  refine sX_time_0 hG ⟨?_, rfl⟩
  rw [co_at X (by decide)]
theorem ckX_time : ∀ q ∈ mX_time.2.1, Ck_ 0 RX0 LX 0 q.1 q.2 := fun _ h => absurd h List.not_mem_nil
theorem okX_time : Cn_ 0 LX yX0_time cX0_time 1 0 csX_time := by
  refine Cn_of mX_time KlX hfX (by decide +kernel) rfl rfl rfl hX_time ckX_time (Or.inl (by decide)) ?_
  intro as X hl hr hX hp G hG
  match as, hl with
  | [], _ => exact vX_time  hX hp hG
end
section
/-! THE COMPONENT's QUERIES: state, arrival, hops, hop, place, booked -/
def aSt_ (X : St_) (b : Int) : Int := if 0 ≤ b ∧ b < X 9 0 then (if X 14 b = 0 then 0 else if cb_ X b (X 16 b - 1) ≤ X 19 0 then 2 else 1) else -1
def aAr_ (X : St_) (b : Int) : Int := if 0 ≤ b ∧ b < X 9 0 then (if X 14 b = 0 then -2 else cb_ X b (X 16 b - 1)) else -1
def aHs_ (X : St_) (b : Int) : Int := if 0 ≤ b ∧ b < X 9 0 then X 16 b else -1
def aHp_ (X : St_) (b i : Int) : Int := if 0 ≤ b ∧ b < X 9 0 then (if 0 ≤ i ∧ i < X 16 b then 1000 * X 17 (100 * b + i) + X 18 (100 * b + i) else -2) else -1
noncomputable def op_ (X : St_) (b : Int) : Int := lst_ (fun i => 0 ≤ i ∧ i < X 16 b ∧ X 19 0 < cb_ X b i)
noncomputable def aPl_ (X : St_) (b : Int) : Int := if 0 ≤ b ∧ b < X 9 0 then (if op_ X b = -1 then ln_ X b else if X 18 (100 * b + op_ X b) < X 19 0 then 10 + X 17 (100 * b + op_ X b) else X 2 (X 17 (100 * b + op_ X b))) else -1
def aBk_ (X : St_) (k : Int) : Int := if 0 ≤ k ∧ k < X 0 0 then (if X 1 k = 0 then sm_ (fun t => X 8 (101 * k + t)) 101 else -2) else -1
theorem co_op (X : St_) (b : Int) : op_ (co_ X) b = op_ X b := by
  unfold op_
  rw [co_at X (f := 16) (by decide), co_at X (f := 19) (by decide)]
  simp only [co_cb]
theorem rOK_pos {X : St_} (h : IV_ X (fun _ => False)) {b : Int} (h0 : 0 ≤ b) (h1 : b < X 9 0) (h14 : ¬ X 14 b = 0) : 0 < X 16 b ∧ X 14 b = 1 := by
  rcases h.2 b h0 h1 with ⟨q, -⟩ | ⟨-, q⟩
  · exact q.elim
  · rcases q with q | q
    · exact ⟨q.2.2.1, q.1⟩
    · exact absurd q.1 h14
def pX_state (b : Int) (X : St_) : Prop := IV_ (co_ X) (fun _ => False)
def qX_state (b : Int) (X : St_) (z : Int) (Y : St_) : Prop := z = aSt_ (co_ X) b ∧ co_ Y = co_ X
def csX_state : Cs_ := (1, false, 1, (fun as X => match as with
  | [a] => pX_state a X
  | _ => False), (fun as X z Y => match as with
  | [a] => qX_state a X z Y
  | _ => False))
def mX_state : Mt_ := (LX, [(156, csX_isBundle), (108, csX_comesInBy)], 1, EX_state)
set_option maxRecDepth 100000 in
theorem sX_state_0 {Rt : Int → St_ → Prop} {G : Nat → Lo_ → List Vl_ → St_ → Prop} (hG : Clo_ mX_state Rt G) {X : St_} {b : Int} (h : pX_isBundle b X ∧ (∀ (z1 : Int) (Y1 : St_), qX_isBundle b X z1 Y1 → (¬ z1 = 0 → 0 ≤ b ∧ b < 10 ∧ (¬ Y1 14 b = 0 → 0 ≤ b ∧ b < 10 ∧ zR ((Y1 16 b) - 1) ∧ pX_comesInBy b ((Y1 16 b) - 1) Y1 ∧ (∀ (z2 : Int) (Y2 : St_), qX_comesInBy b ((Y1 16 b) - 1) Y1 z2 Y2 → (Y2 19 0 < z2 → Rt 1 Y2) ∧ (z2 ≤ Y2 19 0 → Rt 2 Y2))) ∧ (Y1 14 b = 0 → Rt 0 Y1)) ∧ (z1 = 0 → Rt (-1) Y1))) : G 0 [some (.inr 25), some (.inl b)] [] X := run_ hG [] 24 0 _ _ X h
theorem vX_state {b : Int} {X : St_} (r1 : zR b) (hX : rgX_ X) (hp : pX_state b X) {G : Nat → Lo_ → List Vl_ → St_ → Prop} (hG : Clo_ mX_state (qX_state b X) G) : G 0 [some (.inr 25), some (.inl b)] [] X := by
  have hg := co_gOK hp.1.1
  have h9 := hg.2.2.1
  unfold qX_state aSt_ at hG
  rw [co_cb, co_at X (f := 9) (by decide), co_at X (f := 14) (by decide), co_at X (f := 16) (by decide), co_at X (f := 19) (by decide)] at hG
  refine sX_state_0 hG ⟨trivial, ?_⟩
  rintro z1 Y1 ⟨rfl, hz1, hi1⟩
  refine ⟨fun h => ?_, fun h => ⟨by rw [if_neg (fun q => by have := hi1.mpr q; omega)], rfl⟩⟩
  have k1 := hi1.mp (by omega)
  refine ⟨k1.1, by omega, fun hne => ?_, fun he => ⟨by rw [if_pos k1, if_pos he], rfl⟩⟩
  have hpos := rOK_pos hp k1.1 (by rw [co_at Y1 (by decide)]; exact k1.2) (by rw [co_at Y1 (by decide)]; exact hne)
  rw [co_at Y1 (f := 16) (by decide)] at hpos
  have hB := (hg.2.2.2.2 b k1.1 k1.2).2.2.1
  refine ⟨k1.1, by omega, by omega, ⟨hg, k1.1, k1.2, by omega, by omega⟩, ?_⟩
  rintro z2 Y2 ⟨rfl, rfl⟩
  exact ⟨fun hlt => ⟨by rw [if_pos k1, if_neg hne, if_neg (by omega)], rfl⟩, fun hle => ⟨by rw [if_pos k1, if_neg hne, if_pos hle], rfl⟩⟩
theorem ckX_state : ∀ q ∈ mX_state.2.1, Ck_ 0 RX0 LX 2 q.1 q.2 := List.forall_mem_cons.mpr ⟨⟨yX0_isBundle, cX0_isBundle, 2, 0, okX_isBundle, by decide, by decide, by decide +kernel, rfl, ⟨by decide, by decide⟩, lw_V q222 q224 qs15 q33 q225⟩, List.forall_mem_cons.mpr ⟨⟨yX0_comesInBy, cX0_comesInBy, 4, 1, okX_comesInBy, by decide, by decide, by decide +kernel, rfl, ⟨by decide, by decide⟩, lw_V q142 q144 qs2 q33 q145⟩, fun _ h => absurd h List.not_mem_nil⟩⟩
theorem okX_state : Cn_ 0 LX yX0_state cX0_state 2 2 csX_state := by
  refine Cn_of mX_state KlX hfX (by decide +kernel) rfl rfl rfl hX_state ckX_state (Or.inl (by decide)) ?_
  intro as X hl hr hX hp G hG
  match as, hl with
  | [a], _ => exact vX_state (hr _ (by simp)) hX hp hG
def pX_arrival (b : Int) (X : St_) : Prop := IV_ (co_ X) (fun _ => False)
def qX_arrival (b : Int) (X : St_) (z : Int) (Y : St_) : Prop := z = aAr_ (co_ X) b ∧ co_ Y = co_ X
def csX_arrival : Cs_ := (1, false, 1, (fun as X => match as with
  | [a] => pX_arrival a X
  | _ => False), (fun as X z Y => match as with
  | [a] => qX_arrival a X z Y
  | _ => False))
def mX_arrival : Mt_ := (LX, [(156, csX_isBundle), (108, csX_comesInBy)], 1, EX_arrival)
set_option maxRecDepth 100000 in
theorem sX_arrival_0 {Rt : Int → St_ → Prop} {G : Nat → Lo_ → List Vl_ → St_ → Prop} (hG : Clo_ mX_arrival Rt G) {X : St_} {b : Int} (h : pX_isBundle b X ∧ (∀ (z1 : Int) (Y1 : St_), qX_isBundle b X z1 Y1 → (¬ z1 = 0 → 0 ≤ b ∧ b < 10 ∧ (Y1 14 b = 0 → Rt (-2) Y1) ∧ (¬ Y1 14 b = 0 → 0 ≤ b ∧ b < 10 ∧ zR ((Y1 16 b) - 1) ∧ pX_comesInBy b ((Y1 16 b) - 1) Y1 ∧ (∀ (z2 : Int) (Y2 : St_), qX_comesInBy b ((Y1 16 b) - 1) Y1 z2 Y2 → Rt z2 Y2))) ∧ (z1 = 0 → Rt (-1) Y1))) : G 0 [some (.inr 25), some (.inl b)] [] X := run_ hG [] 20 0 _ _ X h
theorem vX_arrival {b : Int} {X : St_} (r1 : zR b) (hX : rgX_ X) (hp : pX_arrival b X) {G : Nat → Lo_ → List Vl_ → St_ → Prop} (hG : Clo_ mX_arrival (qX_arrival b X) G) : G 0 [some (.inr 25), some (.inl b)] [] X := by
  have hg := co_gOK hp.1.1
  have h9 := hg.2.2.1
  unfold qX_arrival aAr_ at hG
  rw [co_cb, co_at X (f := 9) (by decide), co_at X (f := 14) (by decide), co_at X (f := 16) (by decide)] at hG
  refine sX_arrival_0 hG ⟨trivial, ?_⟩
  rintro z1 Y1 ⟨rfl, hz1, hi1⟩
  refine ⟨fun h => ?_, fun h => ⟨by rw [if_neg (fun q => by have := hi1.mpr q; omega)], rfl⟩⟩
  have k1 := hi1.mp (by omega)
  refine ⟨k1.1, by omega, fun he => ⟨by rw [if_pos k1, if_pos he], rfl⟩, fun hne => ?_⟩
  have hpos := rOK_pos hp k1.1 (by rw [co_at Y1 (by decide)]; exact k1.2) (by rw [co_at Y1 (by decide)]; exact hne)
  rw [co_at Y1 (f := 16) (by decide)] at hpos
  have hB := (hg.2.2.2.2 b k1.1 k1.2).2.2.1
  refine ⟨k1.1, by omega, by omega, ⟨hg, k1.1, k1.2, by omega, by omega⟩, ?_⟩
  rintro z2 Y2 ⟨rfl, rfl⟩
  exact ⟨by rw [if_pos k1, if_neg hne], rfl⟩
theorem ckX_arrival : ∀ q ∈ mX_arrival.2.1, Ck_ 0 RX0 LX 2 q.1 q.2 := List.forall_mem_cons.mpr ⟨⟨yX0_isBundle, cX0_isBundle, 2, 0, okX_isBundle, by decide, by decide, by decide +kernel, rfl, ⟨by decide, by decide⟩, lw_V q222 q224 qs15 q33 q225⟩, List.forall_mem_cons.mpr ⟨⟨yX0_comesInBy, cX0_comesInBy, 4, 1, okX_comesInBy, by decide, by decide, by decide +kernel, rfl, ⟨by decide, by decide⟩, lw_V q142 q144 qs2 q33 q145⟩, fun _ h => absurd h List.not_mem_nil⟩⟩
theorem okX_arrival : Cn_ 0 LX yX0_arrival cX0_arrival 2 2 csX_arrival := by
  refine Cn_of mX_arrival KlX hfX (by decide +kernel) rfl rfl rfl hX_arrival ckX_arrival (Or.inl (by decide)) ?_
  intro as X hl hr hX hp G hG
  match as, hl with
  | [a], _ => exact vX_arrival (hr _ (by simp)) hX hp hG
def pX_hops (b : Int) (X : St_) : Prop := IV_ (co_ X) (fun _ => False)
def qX_hops (b : Int) (X : St_) (z : Int) (Y : St_) : Prop := z = aHs_ (co_ X) b ∧ co_ Y = co_ X
def csX_hops : Cs_ := (1, false, 1, (fun as X => match as with
  | [a] => pX_hops a X
  | _ => False), (fun as X z Y => match as with
  | [a] => qX_hops a X z Y
  | _ => False))
def mX_hops : Mt_ := (LX, [(156, csX_isBundle)], 1, EX_hops)
set_option maxRecDepth 100000 in
theorem sX_hops_0 {Rt : Int → St_ → Prop} {G : Nat → Lo_ → List Vl_ → St_ → Prop} (hG : Clo_ mX_hops Rt G) {X : St_} {b : Int} (h : pX_isBundle b X ∧ (∀ (z1 : Int) (Y1 : St_), qX_isBundle b X z1 Y1 → (z1 = 0 → Rt (-1) Y1) ∧ (¬ z1 = 0 → 0 ≤ b ∧ b < 10 ∧ Rt (Y1 16 b) Y1))) : G 0 [some (.inr 25), some (.inl b)] [] X := run_ hG [] 10 0 _ _ X h
theorem vX_hops {b : Int} {X : St_} (r1 : zR b) (hX : rgX_ X) (hp : pX_hops b X) {G : Nat → Lo_ → List Vl_ → St_ → Prop} (hG : Clo_ mX_hops (qX_hops b X) G) : G 0 [some (.inr 25), some (.inl b)] [] X := by
  have hg := co_gOK hp.1.1
  have h9 := hg.2.2.1
  unfold qX_hops aHs_ at hG
  rw [co_at X (f := 9) (by decide), co_at X (f := 16) (by decide)] at hG
  refine sX_hops_0 hG ⟨trivial, ?_⟩
  rintro z1 Y1 ⟨rfl, hz1, hi1⟩
  refine ⟨fun h => ⟨by rw [if_neg (fun q => by have := hi1.mpr q; omega)], rfl⟩, fun h => ?_⟩
  have k1 := hi1.mp (by omega)
  exact ⟨k1.1, by omega, by rw [if_pos k1], rfl⟩
theorem ckX_hops : ∀ q ∈ mX_hops.2.1, Ck_ 0 RX0 LX 1 q.1 q.2 := List.forall_mem_cons.mpr ⟨⟨yX0_isBundle, cX0_isBundle, 2, 0, okX_isBundle, by decide, by decide, by decide +kernel, rfl, ⟨by decide, by decide⟩, lw_V q222 q224 qs15 q33 q225⟩, fun _ h => absurd h List.not_mem_nil⟩
theorem okX_hops : Cn_ 0 LX yX0_hops cX0_hops 2 1 csX_hops := by
  refine Cn_of mX_hops KlX hfX (by decide +kernel) rfl rfl rfl hX_hops ckX_hops (Or.inl (by decide)) ?_
  intro as X hl hr hX hp G hG
  match as, hl with
  | [a], _ => exact vX_hops (hr _ (by simp)) hX hp hG
def pX_hop (b i : Int) (X : St_) : Prop := IV_ (co_ X) (fun _ => False)
def qX_hop (b i : Int) (X : St_) (z : Int) (Y : St_) : Prop := z = aHp_ (co_ X) b i ∧ co_ Y = co_ X
def csX_hop : Cs_ := (2, false, 1, (fun as X => match as with
  | [a, b] => pX_hop a b X
  | _ => False), (fun as X z Y => match as with
  | [a, b] => qX_hop a b X z Y
  | _ => False))
def mX_hop : Mt_ := (LX, [(156, csX_isBundle)], 1, EX_hop)
set_option maxRecDepth 100000 in
theorem sX_hop_0 {Rt : Int → St_ → Prop} {G : Nat → Lo_ → List Vl_ → St_ → Prop} (hG : Clo_ mX_hop Rt G) {X : St_} {b i : Int} (h : pX_isBundle b X ∧ (∀ (z1 : Int) (Y1 : St_), qX_isBundle b X z1 Y1 → (¬ z1 = 0 → (i < 0 → Rt (-2) Y1) ∧ (0 ≤ i → 0 ≤ b ∧ b < 10 ∧ (i < Y1 16 b → zR (100 * b) ∧ zR ((100 * b) + i) ∧ 0 ≤ (100 * b) + i ∧ (100 * b) + i < 1000 ∧ zR (1000 * (Y1 17 ((100 * b) + i))) ∧ zR (100 * b) ∧ zR ((100 * b) + i) ∧ 0 ≤ (100 * b) + i ∧ (100 * b) + i < 1000 ∧ zR ((1000 * (Y1 17 ((100 * b) + i))) + (Y1 18 ((100 * b) + i))) ∧ Rt ((1000 * (Y1 17 ((100 * b) + i))) + (Y1 18 ((100 * b) + i))) Y1) ∧ (Y1 16 b ≤ i → Rt (-2) Y1))) ∧ (z1 = 0 → Rt (-1) Y1))) : G 0 [some (.inr 25), some (.inl b), some (.inl i)] [] X := run_ hG [] 32 0 _ _ X h
theorem vX_hop {b i : Int} {X : St_} (r1 : zR b) (r2 : zR i) (hX : rgX_ X) (hp : pX_hop b i X) {G : Nat → Lo_ → List Vl_ → St_ → Prop} (hG : Clo_ mX_hop (qX_hop b i X) G) : G 0 [some (.inr 25), some (.inl b), some (.inl i)] [] X := by
  have hg := co_gOK hp.1.1
  have h9 := hg.2.2.1
  have hn := hg.1.2.1
  unfold qX_hop aHp_ at hG
  rw [co_at X (f := 9) (by decide), co_at X (f := 16) (by decide), co_at X (f := 17) (by decide), co_at X (f := 18) (by decide)] at hG
  refine sX_hop_0 hG ⟨trivial, ?_⟩
  rintro z1 Y1 ⟨rfl, hz1, hi1⟩
  refine ⟨fun h => ?_, fun h => ⟨by rw [if_neg (fun q => by have := hi1.mpr q; omega)], rfl⟩⟩
  have k1 := hi1.mp (by omega)
  have hB := hg.2.2.2.2 b k1.1 k1.2
  have hB2 := hB.2.2.1
  refine ⟨fun hlt => ⟨by rw [if_pos k1, if_neg (by omega)], rfl⟩, fun hge => ⟨k1.1, by omega, fun hlt => ?_, fun hge2 => ⟨by rw [if_pos k1, if_neg (by omega)], rfl⟩⟩⟩
  have hcb := cb_bound hg (b := b) (i := i) ⟨k1.1, k1.2, hge, hlt⟩
  obtain ⟨a1, a2, -⟩ := hB.2.2.2 i hge hlt
  exact ⟨by omega, by omega, by omega, by omega, by omega, by omega, by omega, by omega, by omega, by omega, by rw [if_pos k1, if_pos ⟨hge, hlt⟩], rfl⟩
theorem ckX_hop : ∀ q ∈ mX_hop.2.1, Ck_ 0 RX0 LX 1 q.1 q.2 := List.forall_mem_cons.mpr ⟨⟨yX0_isBundle, cX0_isBundle, 2, 0, okX_isBundle, by decide, by decide, by decide +kernel, rfl, ⟨by decide, by decide⟩, lw_V q222 q224 qs15 q33 q225⟩, fun _ h => absurd h List.not_mem_nil⟩
theorem okX_hop : Cn_ 0 LX yX0_hop cX0_hop 3 1 csX_hop := by
  refine Cn_of mX_hop KlX hfX (by decide +kernel) rfl rfl rfl hX_hop ckX_hop (Or.inl (by decide)) ?_
  intro as X hl hr hX hp G hG
  match as, hl with
  | [a, b], _ => exact vX_hop (hr _ (by simp)) (hr _ (by simp)) hX hp hG
def pX_place (b : Int) (X : St_) : Prop := IV_ (co_ X) (fun _ => False)
def qX_place (b : Int) (X : St_) (z : Int) (Y : St_) : Prop := z = aPl_ (co_ X) b ∧ co_ Y = co_ X
def csX_place : Cs_ := (1, false, 1, (fun as X => match as with
  | [a] => pX_place a X
  | _ => False), (fun as X z Y => match as with
  | [a] => qX_place a X z Y
  | _ => False))
def mX_place : Mt_ := (LX, [(156, csX_isBundle), (108, csX_comesInBy), (111, csX_lastNode)], 1, EX_place)
set_option maxRecDepth 100000 in
theorem sX_place_0 {Rt : Int → St_ → Prop} {G : Nat → Lo_ → List Vl_ → St_ → Prop} (hG : Clo_ mX_place Rt G) {X : St_} {b : Int} (h : pX_isBundle b X ∧ (∀ (z1 : Int) (Y1 : St_), qX_isBundle b X z1 Y1 → (¬ z1 = 0 → G 12 [some (.inr 25), some (.inl b), some (.inl 0)] [] Y1) ∧ (z1 = 0 → Rt (-1) Y1))) : G 0 [some (.inr 25), some (.inl b)] [] X := run_ hG [(12, 3)] 6 0 _ _ X h
set_option maxRecDepth 100000 in
theorem sX_place_12 {Rt : Int → St_ → Prop} {G : Nat → Lo_ → List Vl_ → St_ → Prop} (hG : Clo_ mX_place Rt G) {X : St_} {b i : Int} (h : 0 ≤ b ∧ b < 10 ∧ (X 16 b ≤ i → pX_lastNode b X ∧ (∀ (z1 : Int) (Y1 : St_), qX_lastNode b X z1 Y1 → Rt z1 Y1)) ∧ (i < X 16 b → pX_comesInBy b i X ∧ (∀ (z2 : Int) (Y2 : St_), qX_comesInBy b i X z2 Y2 → (z2 ≤ Y2 19 0 → zR (i + 1) ∧ G 12 [some (.inr 25), some (.inl b), some (.inl (i + 1))] [] Y2) ∧ (Y2 19 0 < z2 → zR (100 * b) ∧ zR ((100 * b) + i) ∧ 0 ≤ (100 * b) + i ∧ (100 * b) + i < 1000 ∧ zR (100 * b) ∧ zR ((100 * b) + i) ∧ 0 ≤ (100 * b) + i ∧ (100 * b) + i < 1000 ∧ (Y2 19 0 ≤ Y2 18 ((100 * b) + i) → 0 ≤ Y2 17 ((100 * b) + i) ∧ Y2 17 ((100 * b) + i) < 10 ∧ Rt (Y2 2 (Y2 17 ((100 * b) + i))) Y2) ∧ (Y2 18 ((100 * b) + i) < Y2 19 0 → zR (10 + (Y2 17 ((100 * b) + i))) ∧ Rt (10 + (Y2 17 ((100 * b) + i))) Y2))))) : G 12 [some (.inr 25), some (.inl b), some (.inl i)] [] X := run_ hG [(12, 3)] 38 12 _ _ X h
theorem lX_place {b : Int} {X : St_} {G : Nat → Lo_ → List Vl_ → St_ → Prop} (hG : Clo_ mX_place (qX_place b X) G) (hg : gOK_ X) (k1 : 0 ≤ b ∧ b < X 9 0) :
    ∀ (d : Nat) (i : Int), X 16 b - i ≤ d → 0 ≤ i → i ≤ X 16 b → (∀ j, 0 ≤ j → j < i → ¬ X 19 0 < cb_ X b j) → G 12 [some (.inr 25), some (.inl b), some (.inl i)] [] X := by
  have h9 := hg.2.2.1
  have hn := hg.1.2.1
  have hB := hg.2.2.2.2 b k1.1 k1.2
  have hB2 := hB.2.2.1
  unfold qX_place aPl_ at hG
  rw [co_op, co_ln, co_at X (f := 9) (by decide), co_at X (f := 17) (by decide), co_at X (f := 18) (by decide), co_at X (f := 19) (by decide), co_at X (f := 2) (by decide), if_pos k1] at hG
  intro d
  induction d with
  | zero =>
    intro i hd h0 hle hno
    refine sX_place_12 hG ⟨k1.1, by omega, fun h => ⟨⟨hg, k1.1, k1.2⟩, ?_⟩, fun h => by omega⟩
    rintro z1 Y1 ⟨rfl, rfl⟩
    have e : op_ Y1 b = -1 := lst_none fun j hj => hno j hj.1 (by omega) hj.2.2
    exact ⟨by rw [if_pos e], rfl⟩
  | succ d ih =>
    intro i hd h0 hle hno
    refine sX_place_12 hG ⟨k1.1, by omega, fun h => ⟨⟨hg, k1.1, k1.2⟩, ?_⟩, fun h => ⟨⟨hg, k1.1, k1.2, h0, h⟩, ?_⟩⟩
    · rintro z1 Y1 ⟨rfl, rfl⟩
      have e : op_ Y1 b = -1 := lst_none fun j hj => hno j hj.1 (by omega) hj.2.2
      exact ⟨by rw [if_pos e], rfl⟩
    · rintro z2 Y2 ⟨rfl, rfl⟩
      have hcb := cb_bound hg (b := b) (i := i) ⟨k1.1, k1.2, h0, h⟩
      obtain ⟨a1, a2, -⟩ := hB.2.2.2 i h0 h
      refine ⟨fun hle2 => ⟨by omega, ih (i + 1) (by omega) (by omega) (by omega) (fun j j0 j1 => ?_)⟩, fun hgt => ?_⟩
      · by_cases ej : j = i
        · rw [ej]; omega
        · exact hno j j0 (by omega)
      · have e : op_ Y2 b = i := lst_eq ⟨h0, h, hgt⟩ fun j hj => by
          apply Int.not_lt.mp
          intro hlt
          exact hno j hj.1 hlt hj.2.2
        refine ⟨by omega, by omega, by omega, by omega, by omega, by omega, by omega, by omega, fun hge => ⟨a1, by omega, ?_, rfl⟩, fun hlt => ⟨by omega, ?_, rfl⟩⟩
        · rw [e, if_neg (by omega), if_neg (by omega)]
        · rw [e, if_neg (by omega), if_pos hlt]
theorem vX_place {b : Int} {X : St_} (r1 : zR b) (hX : rgX_ X) (hp : pX_place b X) {G : Nat → Lo_ → List Vl_ → St_ → Prop} (hG : Clo_ mX_place (qX_place b X) G) : G 0 [some (.inr 25), some (.inl b)] [] X := by
  have hg := co_gOK hp.1.1
  have h9 := hg.2.2.1
  refine sX_place_0 hG ⟨trivial, ?_⟩
  rintro z1 Y1 ⟨rfl, hz1, hi1⟩
  refine ⟨fun h => ?_, fun h => ⟨?_, rfl⟩⟩
  · have k1 := hi1.mp (by omega)
    have hB := (hg.2.2.2.2 b k1.1 k1.2).2.2.1
    exact lX_place hG hg k1 (Y1 16 b).toNat 0 (by omega) (by omega) (by omega) (fun j j0 j1 => by omega)
  · unfold aPl_
    rw [co_at Y1 (f := 9) (by decide), if_neg (fun q => by have := hi1.mpr q; omega)]
theorem ckX_place : ∀ q ∈ mX_place.2.1, Ck_ 0 RX0 LX 2 q.1 q.2 := List.forall_mem_cons.mpr ⟨⟨yX0_isBundle, cX0_isBundle, 2, 0, okX_isBundle, by decide, by decide, by decide +kernel, rfl, ⟨by decide, by decide⟩, lw_V q222 q224 qs15 q33 q225⟩, List.forall_mem_cons.mpr ⟨⟨yX0_comesInBy, cX0_comesInBy, 4, 1, okX_comesInBy, by decide, by decide, by decide +kernel, rfl, ⟨by decide, by decide⟩, lw_V q142 q144 qs2 q33 q145⟩, List.forall_mem_cons.mpr ⟨⟨yX0_lastNode, cX0_lastNode, 2, 0, okX_lastNode, by decide, by decide, by decide +kernel, rfl, ⟨by decide, by decide⟩, lw_V q150 q152 qs4 q33 q153⟩, fun _ h => absurd h List.not_mem_nil⟩⟩⟩
theorem okX_place : Cn_ 0 LX yX0_place cX0_place 4 2 csX_place := by
  refine Cn_of mX_place KlX hfX (by decide +kernel) rfl rfl rfl hX_place ckX_place (Or.inl (by decide)) ?_
  intro as X hl hr hX hp G hG
  match as, hl with
  | [a], _ => exact vX_place (hr _ (by simp)) hX hp hG
def pX_booked (k : Int) (X : St_) : Prop := IV_ (co_ X) (fun _ => False)
def qX_booked (k : Int) (X : St_) (z : Int) (Y : St_) : Prop := z = aBk_ (co_ X) k ∧ co_ Y = co_ X
def csX_booked : Cs_ := (1, false, 1, (fun as X => match as with
  | [a] => pX_booked a X
  | _ => False), (fun as X z Y => match as with
  | [a] => qX_booked a X z Y
  | _ => False))
def mX_booked : Mt_ := (LX, [(143, csX_isContact)], 1, EX_booked)
set_option maxRecDepth 100000 in
theorem sX_booked_0 {Rt : Int → St_ → Prop} {G : Nat → Lo_ → List Vl_ → St_ → Prop} (hG : Clo_ mX_booked Rt G) {X : St_} {k : Int} (h : pX_isContact k X ∧ (∀ (z1 : Int) (Y1 : St_), qX_isContact k X z1 Y1 → (¬ z1 = 0 → 0 ≤ k ∧ k < 10 ∧ (Y1 1 k = 0 → G 26 [some (.inr 25), some (.inl k), some (.inl 0), some (.inl 0)] [] Y1) ∧ (¬ Y1 1 k = 0 → Rt (-2) Y1)) ∧ (z1 = 0 → Rt (-1) Y1))) : G 0 [some (.inr 25), some (.inl k)] [] X := run_ hG [(26, 4)] 13 0 _ _ X h
set_option maxRecDepth 100000 in
theorem sX_booked_26 {Rt : Int → St_ → Prop} {G : Nat → Lo_ → List Vl_ → St_ → Prop} (hG : Clo_ mX_booked Rt G) {X : St_} {k n t : Int} (h : (101 ≤ t → Rt n X) ∧ (t < 101 → zR (101 * k) ∧ zR ((101 * k) + t) ∧ 0 ≤ (101 * k) + t ∧ (101 * k) + t < 1010 ∧ (X 8 ((101 * k) + t) = 0 → zR (n + 0) ∧ zR (t + 1) ∧ G 26 [some (.inr 25), some (.inl k), some (.inl (n + 0)), some (.inl (t + 1))] [] X) ∧ (¬ X 8 ((101 * k) + t) = 0 → zR (n + 1) ∧ zR (t + 1) ∧ G 26 [some (.inr 25), some (.inl k), some (.inl (n + 1)), some (.inl (t + 1))] [] X))) : G 26 [some (.inr 25), some (.inl k), some (.inl n), some (.inl t)] [] X := run_ hG [(26, 4)] 19 26 _ _ X h
theorem lX_booked {k : Int} {X : St_} {G : Nat → Lo_ → List Vl_ → St_ → Prop} (hG : Clo_ mX_booked (qX_booked k X) G) (hk0 : 0 ≤ k) (hk1 : k < 10) (hbz : ∀ t, 0 ≤ t → t ≤ 100 → X 8 (101 * k + t) = 0 ∨ X 8 (101 * k + t) = 1) (hfin : aBk_ (co_ X) k = sm_ (fun t => X 8 (101 * k + t)) 101) :
    ∀ (d m : Nat), 101 = m + d → G 26 [some (.inr 25), some (.inl k), some (.inl (sm_ (fun t => X 8 (101 * k + t)) m)), some (.inl (m : Int))] [] X := by
  intro d
  induction d with
  | zero =>
    intro m hm
    have hm : m = 101 := by omega
    subst hm
    exact sX_booked_26 hG ⟨fun _ => ⟨hfin.symm, rfl⟩, fun h => by simp at h⟩
  | succ d ih =>
    intro m hm
    have hb1 := sm_nonneg (f := fun t => X 8 (101 * k + t)) m (fun t t0 t1 => by rcases hbz t t0 (by omega) with e | e <;> omega)
    have hb2 := sm_le (f := fun t => X 8 (101 * k + t)) (c := 1) m (fun t t0 t1 => by rcases hbz t t0 (by omega) with e | e <;> omega)
    have hv := hbz m (by omega) (by omega)
    have q := ih (m + 1) (by omega)
    have es : sm_ (fun t => X 8 (101 * k + t)) (m + 1) = sm_ (fun t => X 8 (101 * k + t)) m + X 8 (101 * k + m) := rfl
    rw [es] at q
    push_cast at q
    refine sX_booked_26 hG ⟨fun h => by omega, fun h => ⟨by omega, by omega, by omega, by omega, fun he => ⟨by omega, by omega, ?_⟩, fun hne => ⟨by omega, by omega, ?_⟩⟩⟩
    · rw [he] at q
      exact q
    · have he : X 8 (101 * k + m) = 1 := by omega
      rw [he] at q
      exact q
theorem vX_booked {k : Int} {X : St_} (r1 : zR k) (hX : rgX_ X) (hp : pX_booked k X) {G : Nat → Lo_ → List Vl_ → St_ → Prop} (hG : Clo_ mX_booked (qX_booked k X) G) : G 0 [some (.inr 25), some (.inl k)] [] X := by
  have hg := co_gOK hp.1.1
  have hn := hg.1.2.1
  have e0 : co_ X 0 = X 0 := co_at X (by decide)
  have e1 : co_ X 1 = X 1 := co_at X (by decide)
  have e8 : co_ X 8 = X 8 := co_at X (by decide)
  have hbz : ∀ k t, 0 ≤ k → k < 10 → 0 ≤ t → t ≤ 100 → X 8 (101 * k + t) = 0 ∨ X 8 (101 * k + t) = 1 := by
    intro k t a1 a2 a3 a4
    have := hp.1.2.1 k t a1 a2 a3 a4
    rw [e8] at this
    rcases this with q | q
    · exact Or.inr q.1
    · exact Or.inl q.1
  refine sX_booked_0 hG ⟨trivial, ?_⟩
  rintro z1 Y1 ⟨rfl, hz1, hi1⟩
  refine ⟨fun h => ?_, fun h => ⟨?_, rfl⟩⟩
  · have k1 := hi1.mp (by omega)
    refine ⟨k1.1, by omega, fun he => ?_, fun hne => ⟨?_, rfl⟩⟩
    · refine lX_booked hG k1.1 (by omega) (fun t t0 t1 => hbz k t k1.1 (by omega) t0 t1) ?_ 101 0 rfl
      unfold aBk_
      rw [e0, e1, e8, if_pos k1, if_pos he]
    · unfold aBk_
      rw [e0, e1, if_pos k1, if_neg hne]
  · unfold aBk_
    rw [e0, if_neg (fun q => by have := hi1.mpr q; omega)]
theorem ckX_booked : ∀ q ∈ mX_booked.2.1, Ck_ 0 RX0 LX 1 q.1 q.2 := List.forall_mem_cons.mpr ⟨⟨yX0_isContact, cX0_isContact, 2, 0, okX_isContact, by decide, by decide, by decide +kernel, rfl, ⟨by decide, by decide⟩, lw_V q187 q189 qs12 q33 q190⟩, fun _ h => absurd h List.not_mem_nil⟩
theorem okX_booked : Cn_ 0 LX yX0_booked cX0_booked 4 1 csX_booked := by
  refine Cn_of mX_booked KlX hfX (by decide +kernel) rfl rfl rfl hX_booked ckX_booked (Or.inl (by decide)) ?_
  intro as X hl hr hX hp G hG
  match as, hl with
  | [a], _ => exact vX_booked (hr _ (by simp)) hX hp hG
end
section
/-! THE COMPONENT's QUERIES OF ROUTES: quote, reach, isInTime, latest -/
noncomputable def aQt_ (X : St_) (e size : Int) : Int := if (0 ≤ e ∧ e < 36 ∧ e / 6 ≠ e % 6) ∧ (1 ≤ size ∧ size ≤ 30) then (if ea_ X size (e / 6) (X 19 0) 5 (e % 6) < 1000000 then ea_ X size (e / 6) (X 19 0) 5 (e % 6) else -2) else -1
noncomputable def rc_ (X : St_) (size node lim : Int) : Nat → Int
  | 0 => zShl 1 node
  | v + 1 => if (v : Int) ≠ node ∧ ea_ X size node (X 19 0) 5 v < 1000000 ∧ ea_ X size node (X 19 0) 5 v ≤ lim then zOr (rc_ X size node lim v) (zShl 1 v) else rc_ X size node lim v
noncomputable def aRc_ (X : St_) (node size lim : Int) : Int := if (0 ≤ node ∧ node < 6) ∧ (1 ≤ size ∧ size ≤ 30) then rc_ X size node lim 6 else -1
def it_ (X : St_) (e size lim t : Int) : Prop := ea_ X size (e / 6) t 5 (e % 6) < 1000000 ∧ ea_ X size (e / 6) t 5 (e % 6) ≤ lim
/-- what latest answers -/
def Lt_ (X : St_) (e size lim z : Int) : Prop := (sdOK_ e size ∧ ((z = -4 ∧ ∀ t, X 19 0 ≤ t → t ≤ 100 → ¬ it_ X e size lim t) ∨ (X 19 0 ≤ z ∧ z ≤ 100 ∧ it_ X e size lim z ∧ ∀ t, z < t → t ≤ 100 → ¬ it_ X e size lim t))) ∨ (¬ sdOK_ e size ∧ z = -1)
theorem Lt_uniq {X : St_} {e size lim z w : Int} (h19 : 0 ≤ X 19 0) (h1 : Lt_ X e size lim z) (h2 : Lt_ X e size lim w) : z = w := by
  rcases h1 with ⟨o1, h1⟩ | ⟨o1, h1⟩ <;> rcases h2 with ⟨o2, h2⟩ | ⟨o2, h2⟩
  · rcases h1 with ⟨e1, n1⟩ | ⟨a1, a2, a3, a4⟩ <;> rcases h2 with ⟨e2, n2⟩ | ⟨b1, b2, b3, b4⟩
    · omega
    · exact absurd b3 (n1 w b1 b2)
    · exact absurd a3 (n2 z a1 a2)
    · have c1 : ¬ z < w := fun q => a4 w q b2 b3
      have c2 : ¬ w < z := fun q => b4 z q a2 a3
      omega
  · exact absurd o1 o2
  · exact absurd o2 o1
  · omega
theorem zShl_rg (a b : Int) : zR (zShl a b) := zR_of _
theorem zOr_rg (a b : Int) : zR (zOr a b) := zR_of _
theorem zOr_0 {a : Int} (h : zR a) : zOr a 0 = a := by
  unfold zOr
  rw [zI_0, Int32.or_zero, zI_toInt h]
theorem zOr_self {a : Int} (h : zR a) : zOr a a = a := by
  unfold zOr
  rw [Int32.or_self, zI_toInt h]
theorem zOr_swap (a b c : Int) : zOr (zOr a b) c = zOr (zOr a c) b := by
  unfold zOr
  rw [zI_of, zI_of, Int32.or_assoc, Int32.or_comm (zI b), ← Int32.or_assoc]
theorem rc_rg (X : St_) (size node lim : Int) : ∀ v, zR (rc_ X size node lim v) := by
  intro v
  induction v with
  | zero => exact zShl_rg _ _
  | succ v ih =>
    unfold rc_
    split
    · exact zOr_rg _ _
    · exact ih
theorem rc_succ (X : St_) (size node lim : Int) (v : Nat) : rc_ X size node lim (v + 1) = if (v : Int) ≠ node ∧ ea_ X size node (X 19 0) 5 v < 1000000 ∧ ea_ X size node (X 19 0) 5 v ≤ lim then zOr (rc_ X size node lim v) (zShl 1 v) else rc_ X size node lim v := rfl
theorem rc_abs (X : St_) (size node lim : Int) : ∀ v, zOr (rc_ X size node lim v) (zShl 1 node) = rc_ X size node lim v := by
  intro v
  induction v with
  | zero => exact zOr_self (zShl_rg _ _)
  | succ v ih =>
    rw [rc_succ]
    split
    · rw [zOr_swap, ih]
    · exact ih
theorem rc_nt {X Y : St_} (h : nt_ X = nt_ Y) (h19 : X 19 0 = Y 19 0) (size node lim : Int) : ∀ v, rc_ X size node lim v = rc_ Y size node lim v := by
  intro v
  induction v with
  | zero => rfl
  | succ v ih =>
    unfold rc_
    rw [ih, ea_nt h, h19]
theorem zShr_1 {x : Int} (hr : zR x) : zShr x 1 = x / 2 := by
  unfold zShr
  rw [pk_shr (zI x) (zI 1 &&& 31) 1 (by decide), zI_toInt hr, Int.shiftRight_eq_div_pow]
  rfl
def pX_quote (e size : Int) (X : St_) : Prop := IV_ (co_ X) (fun _ => False)
def qX_quote (e size : Int) (X : St_) (z : Int) (Y : St_) : Prop := z = aQt_ (co_ X) e size ∧ co_ Y = co_ X
def csX_quote : Cs_ := (2, false, 1, (fun as X => match as with
  | [a, b] => pX_quote a b X
  | _ => False), (fun as X z Y => match as with
  | [a, b] => qX_quote a b X z Y
  | _ => False))
def mX_quote : Mt_ := (LX, [(130, csX_areEnds), (153, csX_isSize), (93, csX_spread)], 1, EX_quote)
set_option maxRecDepth 100000 in
theorem sX_quote_0 {Rt : Int → St_ → Prop} {G : Nat → Lo_ → List Vl_ → St_ → Prop} (hG : Clo_ mX_quote Rt G) {X : St_} {e size : Int} (h : pX_areEnds e X ∧ (∀ (z1 : Int) (Y1 : St_), qX_areEnds e X z1 Y1 → (z1 = 0 → Rt (-1) Y1) ∧ (¬ z1 = 0 → pX_isSize size Y1 ∧ (∀ (z2 : Int) (Y2 : St_), qX_isSize size Y1 z2 Y2 → (¬ z2 = 0 → 0 ≤ e ∧ 0 < (6 : Int) ∧ pX_spread (e / 6) (Y2 19 0) size 5 Y2 ∧ (∀ (z3 : Int) (Y3 : St_), qX_spread (e / 6) (Y2 19 0) size 5 Y2 z3 Y3 → 0 ≤ e ∧ 0 < (6 : Int) ∧ 0 ≤ e % 6 ∧ e % 6 < 6 ∧ (Y3 23 (e % 6) < 1000000 → Rt (Y3 23 (e % 6)) Y3) ∧ (1000000 ≤ Y3 23 (e % 6) → Rt (-2) Y3))) ∧ (z2 = 0 → Rt (-1) Y2))))) : G 0 [some (.inr 25), some (.inl e), some (.inl size)] [] X := run_ hG [] 28 0 _ _ X h
theorem vX_quote {e size : Int} {X : St_} (r1 : zR e) (r2 : zR size) (hX : rgX_ X) (hp : pX_quote e size X) {G : Nat → Lo_ → List Vl_ → St_ → Prop} (hG : Clo_ mX_quote (qX_quote e size X) G) : G 0 [some (.inr 25), some (.inl e), some (.inl size)] [] X := by
  have hg := co_gOK hp.1.1
  unfold qX_quote aQt_ at hG
  rw [ea_nt (co_nt X), co_at X (f := 19) (by decide)] at hG
  refine sX_quote_0 hG ⟨trivial, ?_⟩
  rintro z1 Y1 ⟨rfl, hz1, hi1⟩
  refine ⟨fun h => ⟨by rw [if_neg (fun q => by have := hi1.mpr q.1; omega)], rfl⟩, fun h => ⟨trivial, ?_⟩⟩
  have k1 := hi1.mp (by omega)
  rintro z2 Y2 ⟨rfl, hz2, hi2⟩
  refine ⟨fun h => ?_, fun h => ⟨by rw [if_neg (fun q => by have := hi2.mpr q.2; omega)], rfl⟩⟩
  have k2 := hi2.mp (by omega)
  refine ⟨k1.1, by omega, ⟨hg.1, k2.1, k2.2, by omega, by omega⟩, ?_⟩
  rintro z3 Y3 ⟨hf, hv⟩
  rw [hv (e % 6) (by omega) (by omega)]
  refine ⟨k1.1, by omega, by omega, by omega, fun hlt => ⟨?_, co_fr hf (by decide)⟩, fun hge => ⟨?_, co_fr hf (by decide)⟩⟩
  · rw [if_pos ⟨k1, k2⟩]
    exact (if_pos hlt).symm
  · rw [if_pos ⟨k1, k2⟩]
    exact (if_neg (by
      intro q
      have hge : 1000000 ≤ ea_ Y2 size (e / 6) (Y2 19 0) 5 (e % 6) := hge
      omega)).symm
theorem ckX_quote : ∀ q ∈ mX_quote.2.1, Ck_ 0 RX0 LX 3 q.1 q.2 := List.forall_mem_cons.mpr ⟨⟨yX0_areEnds, cX0_areEnds, 1, 0, okX_areEnds, by decide, by decide, by decide +kernel, rfl, ⟨by decide, by decide⟩, lw_S q125 q126 q33 q127⟩, List.forall_mem_cons.mpr ⟨⟨yX0_isSize, cX0_isSize, 1, 0, okX_isSize, by decide, by decide, by decide +kernel, rfl, ⟨by decide, by decide⟩, lw_S q207 q208 q33 q209⟩, List.forall_mem_cons.mpr ⟨⟨yX0_spread, cX0_spread, 8, 2, okX_spread, by decide, by decide, by decide +kernel, rfl, ⟨by decide, by decide⟩, lw_V q158 q160 qs6 q33 q161⟩, fun _ h => absurd h List.not_mem_nil⟩⟩⟩
theorem okX_quote : Cn_ 0 LX yX0_quote cX0_quote 4 3 csX_quote := by
  refine Cn_of mX_quote KlX hfX (by decide +kernel) rfl rfl rfl hX_quote ckX_quote (Or.inl (by decide)) ?_
  intro as X hl hr hX hp G hG
  match as, hl with
  | [a, b], _ => exact vX_quote (hr _ (by simp)) (hr _ (by simp)) hX hp hG
def pX_reach (node size lim : Int) (X : St_) : Prop := IV_ (co_ X) (fun _ => False)
def qX_reach (node size lim : Int) (X : St_) (z : Int) (Y : St_) : Prop := z = aRc_ (co_ X) node size lim ∧ co_ Y = co_ X
def csX_reach : Cs_ := (3, false, 1, (fun as X => match as with
  | [a, b, c] => pX_reach a b c X
  | _ => False), (fun as X z Y => match as with
  | [a, b, c] => qX_reach a b c X z Y
  | _ => False))
def mX_reach : Mt_ := (LX, [(153, csX_isSize), (93, csX_spread)], 1, EX_reach)
set_option maxRecDepth 100000 in
theorem sX_reach_0 {Rt : Int → St_ → Prop} {G : Nat → Lo_ → List Vl_ → St_ → Prop} (hG : Clo_ mX_reach Rt G) {X : St_} {node size lim : Int} (h : (node < 0 → Rt (-1) X) ∧ (0 ≤ node → (6 ≤ node → Rt (-1) X) ∧ (node < 6 → pX_isSize size X ∧ (∀ (z1 : Int) (Y1 : St_), qX_isSize size X z1 Y1 → (¬ z1 = 0 → pX_spread node (Y1 19 0) size 5 Y1 ∧ (∀ (z2 : Int) (Y2 : St_), qX_spread node (Y1 19 0) size 5 Y1 z2 Y2 → G 38 [some (.inr 25), some (.inl node), some (.inl size), some (.inl lim), some (.inl (zShl 1 node)), some (.inl 0)] [] Y2)) ∧ (z1 = 0 → Rt (-1) Y1))))) : G 0 [some (.inr 25), some (.inl node), some (.inl size), some (.inl lim)] [] X := run_ hG [(38, 6)] 21 0 _ _ X h
set_option maxRecDepth 100000 in
theorem sX_reach_38 {Rt : Int → St_ → Prop} {G : Nat → Lo_ → List Vl_ → St_ → Prop} (hG : Clo_ mX_reach Rt G) {X : St_} {node size lim set v : Int} (h : (6 ≤ v → Rt set X) ∧ (v < 6 → 0 ≤ v ∧ v < 6 ∧ (1000000 ≤ X 23 v → zR (v + 1) ∧ G 38 [some (.inr 25), some (.inl node), some (.inl size), some (.inl lim), some (.inl (zOr set 0)), some (.inl (v + 1))] [] X) ∧ (X 23 v < 1000000 → 0 ≤ v ∧ v < 6 ∧ (lim < X 23 v → zR (v + 1) ∧ G 38 [some (.inr 25), some (.inl node), some (.inl size), some (.inl lim), some (.inl (zOr set 0)), some (.inl (v + 1))] [] X) ∧ (X 23 v ≤ lim → zR (v + 1) ∧ G 38 [some (.inr 25), some (.inl node), some (.inl size), some (.inl lim), some (.inl (zOr set (zShl 1 v))), some (.inl (v + 1))] [] X)))) : G 38 [some (.inr 25), some (.inl node), some (.inl size), some (.inl lim), some (.inl set), some (.inl v)] [] X := run_ hG [(38, 6)] 24 38 _ _ X h
theorem lX_reach {node size lim : Int} {X : St_} {G : Nat → Lo_ → List Vl_ → St_ → Prop} (hG : Clo_ mX_reach (qX_reach node size lim X) G) (hfin : aRc_ (co_ X) node size lim = rc_ X size node lim 6) {Z : St_} (hco : co_ Z = co_ X) (hv : ∀ v, 0 ≤ v → v < 6 → Z 23 v = ea_ X size node (X 19 0) 5 v) :
    ∀ (d v : Nat), 6 = v + d → G 38 [some (.inr 25), some (.inl node), some (.inl size), some (.inl lim), some (.inl (rc_ X size node lim v)), some (.inl (v : Int))] [] Z := by
  intro d
  induction d with
  | zero =>
    intro v hd
    have e : v = 6 := by omega
    subst e
    exact sX_reach_38 hG ⟨fun _ => ⟨hfin.symm, hco⟩, fun h => by simp at h⟩
  | succ d ih =>
    intro v hd
    have q := ih (v + 1) (by omega)
    push_cast at q
    have es : rc_ X size node lim (v + 1) = if (v : Int) ≠ node ∧ ea_ X size node (X 19 0) 5 v < 1000000 ∧ ea_ X size node (X 19 0) 5 v ≤ lim then zOr (rc_ X size node lim v) (zShl 1 v) else rc_ X size node lim v := rfl
    have hrg := rc_rg X size node lim v
    rw [es] at q
    refine sX_reach_38 hG ?_
    rw [hv v (by omega) (by omega), zOr_0 hrg]
    refine ⟨fun h => by omega, fun h => ⟨by omega, h, fun hge => ⟨by omega, ?_⟩, fun hlt => ⟨by omega, h, fun hgt => ⟨by omega, ?_⟩, fun hle => ⟨by omega, ?_⟩⟩⟩⟩
    · rw [if_neg (by omega)] at q
      exact q
    · rw [if_neg (by omega)] at q
      exact q
    · by_cases en : (v : Int) = node
      · rw [if_neg (by omega)] at q
        rw [en, rc_abs]
        rw [en] at q
        exact q
      · rw [if_pos ⟨en, hlt, hle⟩] at q
        exact q
theorem vX_reach {node size lim : Int} {X : St_} (r1 : zR node) (r2 : zR size) (r3 : zR lim) (hX : rgX_ X) (hp : pX_reach node size lim X) {G : Nat → Lo_ → List Vl_ → St_ → Prop} (hG : Clo_ mX_reach (qX_reach node size lim X) G) : G 0 [some (.inr 25), some (.inl node), some (.inl size), some (.inl lim)] [] X := by
  have hg := co_gOK hp.1.1
  have e19 : co_ X 19 0 = X 19 0 := by rw [co_at X (by decide)]
  have bad : ¬ ((0 ≤ node ∧ node < 6) ∧ (1 ≤ size ∧ size ≤ 30)) → qX_reach node size lim X (-1) X := fun q => ⟨by unfold aRc_; rw [if_neg q], rfl⟩
  refine sX_reach_0 hG ⟨fun h => bad (by omega), fun h0 => ⟨fun h => bad (by omega), fun h6 => ⟨trivial, ?_⟩⟩⟩
  rintro z1 Y1 ⟨rfl, hz1, hi1⟩
  refine ⟨fun h => ?_, fun h => bad (fun q => by have := hi1.mpr q.2; omega)⟩
  have k2 := hi1.mp (by omega)
  refine ⟨⟨hg.1, k2.1, k2.2, by omega, by omega⟩, ?_⟩
  rintro z2 Y2 ⟨hf, hv⟩
  refine lX_reach hG ?_ (co_fr hf (by decide)) hv 6 0 rfl
  unfold aRc_
  rw [if_pos ⟨⟨h0, h6⟩, k2⟩]
  exact rc_nt (co_nt Y1) e19 _ _ _ _
theorem ckX_reach : ∀ q ∈ mX_reach.2.1, Ck_ 0 RX0 LX 3 q.1 q.2 := List.forall_mem_cons.mpr ⟨⟨yX0_isSize, cX0_isSize, 1, 0, okX_isSize, by decide, by decide, by decide +kernel, rfl, ⟨by decide, by decide⟩, lw_S q207 q208 q33 q209⟩, List.forall_mem_cons.mpr ⟨⟨yX0_spread, cX0_spread, 8, 2, okX_spread, by decide, by decide, by decide +kernel, rfl, ⟨by decide, by decide⟩, lw_V q158 q160 qs6 q33 q161⟩, fun _ h => absurd h List.not_mem_nil⟩⟩
theorem okX_reach : Cn_ 0 LX yX0_reach cX0_reach 6 3 csX_reach := by
  refine Cn_of mX_reach KlX hfX (by decide +kernel) rfl rfl rfl hX_reach ckX_reach (Or.inl (by decide)) ?_
  intro as X hl hr hX hp G hG
  match as, hl with
  | [a, b, c], _ => exact vX_reach (hr _ (by simp)) (hr _ (by simp)) (hr _ (by simp)) hX hp hG
def pX_isInTime (e size ready lim : Int) (X : St_) : Prop := nOK_ X ∧ 0 ≤ e ∧ 1 ≤ size ∧ size ≤ 30
def qX_isInTime (e size ready lim : Int) (X : St_) (z : Int) (Y : St_) : Prop := fr_ [23, 24] X Y ∧ (z = 0 ∨ z = 1) ∧ (z = 1 ↔ it_ X e size lim ready)
def csX_isInTime : Cs_ := (4, false, 2, (fun as X => match as with
  | [a, b, c, d] => pX_isInTime a b c d X
  | _ => False), (fun as X z Y => match as with
  | [a, b, c, d] => qX_isInTime a b c d X z Y
  | _ => False))
def mX_isInTime : Mt_ := (LX, [(93, csX_spread)], 2, EX_isInTime)
set_option maxRecDepth 100000 in
theorem sX_isInTime_0 {Rt : Int → St_ → Prop} {G : Nat → Lo_ → List Vl_ → St_ → Prop} (hG : Clo_ mX_isInTime Rt G) {X : St_} {e size ready lim : Int} (h : 0 ≤ e ∧ 0 < (6 : Int) ∧ pX_spread (e / 6) ready size 5 X ∧ (∀ (z1 : Int) (Y1 : St_), qX_spread (e / 6) ready size 5 X z1 Y1 → 0 ≤ e ∧ 0 < (6 : Int) ∧ 0 ≤ e % 6 ∧ e % 6 < 6 ∧ (1000000 ≤ Y1 23 (e % 6) → ((0 : Int) = 0 ∨ (0 : Int) = 1) ∧ Rt 0 Y1) ∧ (Y1 23 (e % 6) < 1000000 → (lim < Y1 23 (e % 6) → ((0 : Int) = 0 ∨ (0 : Int) = 1) ∧ Rt 0 Y1) ∧ (Y1 23 (e % 6) ≤ lim → ((1 : Int) = 0 ∨ (1 : Int) = 1) ∧ Rt 1 Y1)))) : G 0 [some (.inr 25), some (.inl e), some (.inl size), some (.inl ready), some (.inl lim)] [] X := run_ hG [] 24 0 _ _ X h
theorem vX_isInTime {e size ready lim : Int} {X : St_} (r1 : zR e) (r2 : zR size) (r3 : zR ready) (r4 : zR lim) (hX : rgX_ X) (hp : pX_isInTime e size ready lim X) {G : Nat → Lo_ → List Vl_ → St_ → Prop} (hG : Clo_ mX_isInTime (qX_isInTime e size ready lim X) G) : G 0 [some (.inr 25), some (.inl e), some (.inl size), some (.inl ready), some (.inl lim)] [] X := by
  obtain ⟨hn, h0, h1, h2⟩ := hp
  refine sX_isInTime_0 hG ⟨h0, by omega, ⟨hn, h1, h2, by omega, by omega⟩, ?_⟩
  rintro z1 Y1 ⟨hf, hv⟩
  rw [hv (e % 6) (by omega) (by omega)]
  have e5 : (5 : Int).toNat = 5 := rfl
  rw [e5]
  exact ⟨h0, by omega, by omega, by omega, fun hge => ⟨by omega, hf, by omega, ⟨fun q => by omega, fun q => by have := q.1; omega⟩⟩, fun hlt => ⟨fun hgt => ⟨by omega, hf, by omega, ⟨fun q => by omega, fun q => by have := q.2; omega⟩⟩, fun hle => ⟨by omega, hf, by omega, ⟨fun _ => ⟨hlt, hle⟩, fun _ => rfl⟩⟩⟩⟩
theorem ckX_isInTime : ∀ q ∈ mX_isInTime.2.1, Ck_ 0 RX0 LX 3 q.1 q.2 := List.forall_mem_cons.mpr ⟨⟨yX0_spread, cX0_spread, 8, 2, okX_spread, by decide, by decide, by decide +kernel, rfl, ⟨by decide, by decide⟩, lw_V q158 q160 qs6 q33 q161⟩, fun _ h => absurd h List.not_mem_nil⟩
theorem okX_isInTime : Cn_ 0 LX yX0_isInTime cX0_isInTime 6 3 csX_isInTime := by
  refine Cn_of mX_isInTime KlX hfX (by decide +kernel) rfl rfl rfl hX_isInTime ckX_isInTime (Or.inl (by decide)) ?_
  intro as X hl hr hX hp G hG
  match as, hl with
  | [a, b, c, d], _ => exact vX_isInTime (hr _ (by simp)) (hr _ (by simp)) (hr _ (by simp)) (hr _ (by simp)) hX hp hG
theorem it_nt {X Y : St_} (h : nt_ X = nt_ Y) (e size lim t : Int) : it_ X e size lim t ↔ it_ Y e size lim t := by
  unfold it_
  rw [ea_nt h]
theorem it_mono {X : St_} (hn : nOK_ X) {e size lim t t' : Int} (hs : 1 ≤ size) (h : t ≤ t') (hi : it_ X e size lim t') : it_ X e size lim t := by
  obtain ⟨L, hl, hw⟩ := ea_walk hn 5 (e % 6) hi.1
  obtain ⟨a0, ha, hw0⟩ := wk_mono hn hs L h hw
  have := ea_min hn hs 5 L (e % 6) a0 hl hw0
  have h1 := hi.1
  have h2 := hi.2
  exact ⟨by omega, by omega⟩
theorem Lt_nt {X Y : St_} (h : nt_ X = nt_ Y) (h19 : X 19 0 = Y 19 0) {e size lim z : Int} (hl : Lt_ X e size lim z) : Lt_ Y e size lim z := by
  unfold Lt_ at *
  simp only [it_nt h, h19] at hl
  exact hl
def pX_latest (e size lim : Int) (X : St_) : Prop := IV_ (co_ X) (fun _ => False)
def qX_latest (e size lim : Int) (X : St_) (z : Int) (Y : St_) : Prop := Lt_ (co_ X) e size lim z ∧ co_ Y = co_ X
def csX_latest : Cs_ := (3, false, 1, (fun as X => match as with
  | [a, b, c] => pX_latest a b c X
  | _ => False), (fun as X z Y => match as with
  | [a, b, c] => qX_latest a b c X z Y
  | _ => False))
def mX_latest : Mt_ := (LX, [(130, csX_areEnds), (153, csX_isSize), (159, csX_isInTime)], 1, EX_latest)
set_option maxRecDepth 100000 in
theorem sX_latest_0 {Rt : Int → St_ → Prop} {G : Nat → Lo_ → List Vl_ → St_ → Prop} (hG : Clo_ mX_latest Rt G) {X : St_} {e size lim : Int} (h : pX_areEnds e X ∧ (∀ (z1 : Int) (Y1 : St_), qX_areEnds e X z1 Y1 → (z1 = 0 → Rt (-1) Y1) ∧ (¬ z1 = 0 → pX_isSize size Y1 ∧ (∀ (z2 : Int) (Y2 : St_), qX_isSize size Y1 z2 Y2 → (¬ z2 = 0 → (100 < Y2 19 0 → Rt (-4) Y2) ∧ (Y2 19 0 ≤ 100 → pX_isInTime e size (Y2 19 0) lim Y2 ∧ (∀ (z3 : Int) (Y3 : St_), qX_isInTime e size (Y2 19 0) lim Y2 z3 Y3 → (¬ z3 = 0 → G 55 [some (.inr 25), some (.inl e), some (.inl size), some (.inl lim), some (.inl (Y3 19 0)), some (.inl 100), some (.inl 0)] [] Y3) ∧ (z3 = 0 → Rt (-4) Y3)))) ∧ (z2 = 0 → Rt (-1) Y2))))) : G 0 [some (.inr 25), some (.inl e), some (.inl size), some (.inl lim)] [] X := run_ hG [(55, 7)] 25 0 _ _ X h
set_option maxRecDepth 100000 in
theorem sX_latest_55 {Rt : Int → St_ → Prop} {G : Nat → Lo_ → List Vl_ → St_ → Prop} (hG : Clo_ mX_latest Rt G) {X : St_} {e size lim low high n : Int} (h : (8 ≤ n → Rt low X) ∧ (n < 8 → (high ≤ low → Rt low X) ∧ (low < high → zR (low + high) ∧ zR ((low + high) + 1) ∧ pX_isInTime e size (zShr ((low + high) + 1) 1) lim X ∧ (∀ (z1 : Int) (Y1 : St_), qX_isInTime e size (zShr ((low + high) + 1) 1) lim X z1 Y1 → (z1 = 0 → zR ((zShr ((low + high) + 1) 1) - 1) ∧ zR (n + 1) ∧ G 55 [some (.inr 25), some (.inl e), some (.inl size), some (.inl lim), some (.inl low), some (.inl ((zShr ((low + high) + 1) 1) - 1)), some (.inl (n + 1))] [] Y1) ∧ (¬ z1 = 0 → zR (n + 1) ∧ G 55 [some (.inr 25), some (.inl e), some (.inl size), some (.inl lim), some (.inl (zShr ((low + high) + 1) 1)), some (.inl high), some (.inl (n + 1))] [] Y1))))) : G 55 [some (.inr 25), some (.inl e), some (.inl size), some (.inl lim), some (.inl low), some (.inl high), some (.inl n)] [] X := run_ hG [(55, 7)] 27 55 _ _ X h
theorem lX_latest {e size lim : Int} {X : St_} (hg : gOK_ X) (hOK : sdOK_ e size) {G : Nat → Lo_ → List Vl_ → St_ → Prop} (hG : Clo_ mX_latest (qX_latest e size lim X) G) :
    ∀ (r : Nat) (low high n : Int) (Z : St_), n + r = 8 → 0 ≤ n → fr_ [23, 24] X Z → X 19 0 ≤ low → low ≤ high → high ≤ 100 → high - low < 2 ^ r → it_ X e size lim low → (∀ t, high < t → t ≤ 100 → ¬ it_ X e size lim t) → G 55 [some (.inr 25), some (.inl e), some (.inl size), some (.inl lim), some (.inl low), some (.inl high), some (.inl n)] [] Z := by
  have h19 := hg.2.2.2.1
  have fin : ∀ (low high : Int) (Z : St_), fr_ [23, 24] X Z → X 19 0 ≤ low → high ≤ low → low ≤ high → high ≤ 100 → it_ X e size lim low → (∀ t, high < t → t ≤ 100 → ¬ it_ X e size lim t) → qX_latest e size lim X low Z := by
    intro low high Z hf h1 h2 h2' h3 h4 h5
    have e : high = low := by omega
    subst e
    exact ⟨Lt_nt (co_nt X).symm (by rw [co_at X (by decide)]) (Or.inl ⟨hOK, Or.inr ⟨h1, h3, h4, h5⟩⟩), co_fr hf (by decide)⟩
  intro r
  induction r with
  | zero =>
    intro low high n Z hn hn0 hf h1 h2 h3 h4 h5 h6
    have h4 : high - low < 1 := by simpa using h4
    exact sX_latest_55 hG ⟨fun _ => fin low high Z hf h1 (by omega) h2 h3 h5 h6, fun h => by omega⟩
  | succ r ih =>
    intro low high n Z hn hn0 hf h1 h2 h3 h4 h5 h6
    have hp2 : (2 : Int) ^ (r + 1) = 2 ^ r * 2 := Int.pow_succ 2 r
    refine sX_latest_55 hG ⟨fun h => by push_cast at hn; omega, fun _ => ⟨fun hle => fin low high Z hf h1 hle h2 h3 h5 h6, fun hlt => ⟨by omega, by omega, ?_, ?_⟩⟩⟩
    · exact ⟨nOK_nt (hf.nt (by decide)).symm hg.1, hOK.1.1, hOK.2.1, hOK.2.2⟩
    · rw [zShr_1 (show zR (low + high + 1) from ⟨by omega, by omega⟩)]
      rintro z1 Y1 ⟨hf1, hz, hi⟩
      rw [it_nt (hf.nt (by decide))] at hi
      push_cast at hn
      refine ⟨fun h0 => ⟨by omega, by omega, ?_⟩, fun hne => ⟨by omega, ?_⟩⟩
      · refine ih low _ (n + 1) Y1 (by omega) (by omega) (hf.trans hf1) h1 (by omega) (by omega) (by omega) h5 (fun t t0 t1 ht => ?_)
        by_cases ht2 : high < t
        · exact h6 t ht2 t1 ht
        · have := hi.mpr (it_mono hg.1 hOK.2.1 (show (low + high + 1) / 2 ≤ t by omega) ht)
          omega
      · exact ih _ high (n + 1) Y1 (by omega) (by omega) (hf.trans hf1) (by omega) (by omega) h3 (by omega) (hi.mp (by omega)) h6
theorem vX_latest {e size lim : Int} {X : St_} (r1 : zR e) (r2 : zR size) (r3 : zR lim) (hX : rgX_ X) (hp : pX_latest e size lim X) {G : Nat → Lo_ → List Vl_ → St_ → Prop} (hG : Clo_ mX_latest (qX_latest e size lim X) G) : G 0 [some (.inr 25), some (.inl e), some (.inl size), some (.inl lim)] [] X := by
  have hg := co_gOK hp.1.1
  have h19 := hg.2.2.2.1
  have e19 : X 19 0 = co_ X 19 0 := by rw [co_at X (by decide)]
  have hnt := (co_nt X).symm
  refine sX_latest_0 hG ⟨trivial, ?_⟩
  rintro z1 Y1 ⟨rfl, hz1, hi1⟩
  refine ⟨fun h => ⟨Or.inr ⟨fun q => by have := hi1.mpr q.1; omega, rfl⟩, rfl⟩, fun h => ⟨trivial, ?_⟩⟩
  have k1 := hi1.mp (by omega)
  rintro z2 Y2 ⟨rfl, hz2, hi2⟩
  refine ⟨fun h => ?_, fun h => ⟨Or.inr ⟨fun q => by have := hi2.mpr q.2; omega, rfl⟩, rfl⟩⟩
  have k2 := hi2.mp (by omega)
  have hOK : sdOK_ e size := ⟨k1, k2⟩
  refine ⟨fun hgt => ⟨Lt_nt hnt e19 (Or.inl ⟨hOK, Or.inl ⟨rfl, fun t t0 t1 => by omega⟩⟩), rfl⟩, fun hle => ⟨⟨hg.1, k1.1, k2.1, k2.2⟩, ?_⟩⟩
  rintro z3 Y3 ⟨hf, hz3, hi3⟩
  refine ⟨fun hne => ?_, fun h0 => ⟨Lt_nt hnt e19 (Or.inl ⟨hOK, Or.inl ⟨rfl, fun t t0 t1 ht => ?_⟩⟩), co_fr hf (by decide)⟩⟩
  · rw [hf 19 (by decide)]
    refine lX_latest hg hOK hG 8 (Y2 19 0) 100 0 Y3 rfl (by omega) hf (by omega) hle (by omega) ?_ (hi3.mp (by omega)) (fun t t0 t1 => by omega)
    have : (2 : Int) ^ 8 = 256 := by decide
    omega
  · have := hi3.mpr (it_mono hg.1 k2.1 t0 ht)
    omega
theorem ckX_latest : ∀ q ∈ mX_latest.2.1, Ck_ 0 RX0 LX 4 q.1 q.2 := List.forall_mem_cons.mpr ⟨⟨yX0_areEnds, cX0_areEnds, 1, 0, okX_areEnds, by decide, by decide, by decide +kernel, rfl, ⟨by decide, by decide⟩, lw_S q125 q126 q33 q127⟩, List.forall_mem_cons.mpr ⟨⟨yX0_isSize, cX0_isSize, 1, 0, okX_isSize, by decide, by decide, by decide +kernel, rfl, ⟨by decide, by decide⟩, lw_S q207 q208 q33 q209⟩, List.forall_mem_cons.mpr ⟨⟨yX0_isInTime, cX0_isInTime, 6, 3, okX_isInTime, by decide, by decide, by decide +kernel, rfl, ⟨by decide, by decide⟩, lw_V q254 q256 qs16 q33 q257⟩, fun _ h => absurd h List.not_mem_nil⟩⟩⟩
theorem okX_latest : Cn_ 0 LX yX0_latest cX0_latest 8 4 csX_latest := by
  refine Cn_of mX_latest KlX hfX (by decide +kernel) rfl rfl rfl hX_latest ckX_latest (Or.inl (by decide)) ?_
  intro as X hl hr hX hp G hG
  match as, hl with
  | [a, b, c], _ => exact vX_latest (hr _ (by simp)) (hr _ (by simp)) (hr _ (by simp)) hX hp hG
end
section
/-! THE MODEL's SEARCH, PURE: lists of contacts tried in order (vs_); the first best one is the best route -/
def kb_ (goal v t : Int) (P : List Int) (B : Option (List Int × Int)) : Option (List Int × Int) := match B with
  | none => if v = goal then some (P, t) else none
  | some q => if v = goal ∧ (t < q.2 ∨ (t = q.2 ∧ P.length < q.1.length)) then some (P, t) else some q
noncomputable def vi_ (N : St_) (size n : Int) (f : List Int → Int → Int → Option (List Int × Int) → Option (List Int × Int)) (goal : Int) (P : List Int) (v t : Int) : Nat → Option (List Int × Int) → Option (List Int × Int)
  | 0, B => B
  | r + 1, B => if N 2 (n - (r + 1)) = v ∧ N 1 (n - (r + 1)) = 0 ∧ (n - (r + 1)) ∉ P ∧ 0 ≤ fb_ N (n - (r + 1)) t (tk_ N (n - (r + 1)) size) then
      vi_ N size n f goal P v t r (f (P ++ [n - (r + 1)]) (N 3 (n - (r + 1))) (cin_ N (n - (r + 1)) t size) (kb_ goal (N 3 (n - (r + 1))) (cin_ N (n - (r + 1)) t size) (P ++ [n - (r + 1)]) B))
    else vi_ N size n f goal P v t r B
noncomputable def vs_ (N : St_) (size goal : Int) : Nat → List Int → Int → Int → Option (List Int × Int) → Option (List Int × Int)
  | 0, _, _, _, B => B
  | m + 1, P, v, t, B => vi_ N size (N 0 0) (vs_ N size goal m) goal P v t (N 0 0).toNat B
/-- B is the first best of the candidates C -/
def Bst_ (B : Option (List Int × Int)) (C : List Int → Int → Prop) : Prop := (B = none → ∀ R c, ¬ C R c) ∧ ∀ L a, B = some (L, a) → C L a ∧ ∀ R c, C R c → a < c ∨ (a = c ∧ (L.length < R.length ∨ (L.length = R.length ∧ lx_ L R)))
theorem Bst_congr {B : Option (List Int × Int)} {C D : List Int → Int → Prop} (h : Bst_ B C) (hc : ∀ R c, C R c ↔ D R c) : Bst_ B D := by
  refine ⟨fun e R c q => h.1 e R c ((hc R c).mpr q), fun L a e => ?_⟩
  obtain ⟨h1, h2⟩ := h.2 L a e
  exact ⟨(hc L a).mp h1, fun R c q => h2 R c ((hc R c).mpr q)⟩
theorem lx_refl : ∀ (L : List Int), lx_ L L
  | [] => trivial
  | _ :: L => Or.inr ⟨rfl, lx_refl L⟩
theorem lx_app : ∀ (P : List Int) (A B : List Int), lx_ A B → lx_ (P ++ A) (P ++ B)
  | [], _, _, h => h
  | _ :: P, A, B, h => Or.inr ⟨rfl, lx_app P A B h⟩
theorem kb_Bst {goal v t : Int} {P : List Int} {B : Option (List Int × Int)} {C : List Int → Int → Prop} (h : Bst_ B C) (ho : ∀ R c, C R c → R.length = P.length → lx_ R P) : Bst_ (kb_ goal v t P B) (fun R c => C R c ∨ (R = P ∧ c = t ∧ v = goal)) := by
  by_cases hv : v = goal
  · cases B with
    | none =>
      have hno := h.1 rfl
      have e : kb_ goal v t P none = some (P, t) := by unfold kb_; exact if_pos hv
      rw [e]
      refine ⟨(fun q => by cases q), fun L a q => ?_⟩
      cases q
      refine ⟨Or.inr ⟨rfl, rfl, hv⟩, fun R c hc => ?_⟩
      rcases hc with hc | ⟨rfl, rfl, -⟩
      · exact absurd hc (hno R c)
      · exact Or.inr ⟨rfl, Or.inr ⟨rfl, lx_refl _⟩⟩
    | some q =>
      obtain ⟨h1, h2⟩ := h.2 q.1 q.2 rfl
      by_cases hb : t < q.2 ∨ (t = q.2 ∧ P.length < q.1.length)
      · have e : kb_ goal v t P (some q) = some (P, t) := by unfold kb_; exact if_pos ⟨hv, hb⟩
        rw [e]
        refine ⟨(fun z => by cases z), fun L a z => ?_⟩
        cases z
        refine ⟨Or.inr ⟨rfl, rfl, hv⟩, fun R c hc => ?_⟩
        rcases hc with hc | ⟨rfl, rfl, -⟩
        · rcases h2 R c hc with g | ⟨g1, g2 | ⟨g2, -⟩⟩ <;> rcases hb with b | ⟨b1, b2⟩ <;> omega
        · exact Or.inr ⟨rfl, Or.inr ⟨rfl, lx_refl _⟩⟩
      · have e : kb_ goal v t P (some q) = some q := by unfold kb_; exact if_neg (fun z => hb z.2)
        rw [e]
        refine ⟨(fun z => by cases z), fun L a z => ?_⟩
        cases z
        refine ⟨Or.inl h1, fun R c hc => ?_⟩
        rcases hc with hc | ⟨rfl, rfl, -⟩
        · exact h2 R c hc
        · simp only at hb
          by_cases h3 : a < c
          · exact Or.inl h3
          · refine Or.inr ⟨by omega, ?_⟩
            by_cases h4 : L.length < R.length
            · exact Or.inl h4
            · exact Or.inr ⟨by omega, ho L a h1 (by omega)⟩
  · have e : kb_ goal v t P B = B := by
      unfold kb_
      cases B with
      | none => exact if_neg hv
      | some q => exact if_neg (fun z => hv z.1)
    rw [e]
    exact Bst_congr h (fun R c => ⟨fun q => Or.inl q, fun q => q.elim id (fun z => absurd z.2.2 hv)⟩)
/-- what comes behind P, by at most m contacts more -/
def Ex_ (N : St_) (size goal : Int) (m : Nat) (P : List Int) (v t : Int) (R : List Int) (c : Int) : Prop := ∃ A, A ≠ [] ∧ A.length ≤ m ∧ R = P ++ A ∧ R.Nodup ∧ wk_ N size v t A goal c
def Ei_ (N : St_) (size goal : Int) (m : Nat) (P : List Int) (v t k0 : Int) (R : List Int) (c : Int) : Prop := ∃ k A, k < k0 ∧ A.length ≤ m ∧ R = P ++ k :: A ∧ R.Nodup ∧ wk_ N size v t (k :: A) goal c
def Or_ (C : List Int → Int → Prop) (P : List Int) : Prop := ∀ R c, C R c → ∀ A, A ≠ [] → R.length = (P ++ A).length → lx_ R (P ++ A)
theorem cin_lt {N : St_} {k t size : Int} (hk : kOK_ N k) (hs : 1 ≤ size) (ht : t < 1000000) : cin_ N k t size < 1000000 ↔ (N 1 k = 0 ∧ 0 ≤ fb_ N k t (tk_ N k size)) := by
  rcases cin_bound (t := t) hk hs with h | ⟨h1, h2, h3, h4, h5, h6, h7⟩
  · constructor
    · intro q; omega
    · rintro ⟨q1, q2⟩
      have hb := h
      unfold cin_ at hb
      rw [if_neg (fun z => by rcases z with z | z | z <;> omega)] at hb
      obtain ⟨a1, a2, a3, a4, a5, a6, a7, a8, a9, a10, a11⟩ := hk
      rcases fb_cases N k t (tk_ N k size) with ⟨e, -⟩ | ⟨e, -⟩
      · omega
      · have := e.2.2.1
        omega
  · exact ⟨fun _ => ⟨h1, h7⟩, fun _ => by omega⟩
theorem vi_Bst {N : St_} (hN : nOK_ N) {size goal : Int} (hs : 1 ≤ size) {m : Nat} {f : List Int → Int → Int → Option (List Int × Int) → Option (List Int × Int)}
    (hf : ∀ (P : List Int) (v t : Int) (B : Option (List Int × Int)) (C : List Int → Int → Prop), t < 1000000 → P.Nodup → Or_ C P → Bst_ B C → Bst_ (f P v t B) (fun R c => C R c ∨ Ex_ N size goal m P v t R c))
    {P : List Int} {v t : Int} (ht : t < 1000000) (hP : P.Nodup) {C : List Int → Int → Prop} (hO : Or_ C P) :
    ∀ (r : Nat) (B : Option (List Int × Int)), (r : Int) ≤ N 0 0 → Bst_ B (fun R c => C R c ∨ Ei_ N size goal m P v t (N 0 0 - r) R c) → Bst_ (vi_ N size (N 0 0) f goal P v t r B) (fun R c => C R c ∨ Ei_ N size goal m P v t (N 0 0) R c) := by
  intro r
  induction r with
  | zero =>
    intro B _ hB
    show Bst_ B _
    simpa using hB
  | succ r ih =>
    intro B hr hB
    push_cast at hr hB
    have hk0 : 0 ≤ N 0 0 - (r + 1) := by omega
    have hk1 : N 0 0 - (r + 1) < N 0 0 := by omega
    generalize hk : N 0 0 - ((r : Int) + 1) = k at hB hk0 hk1
    have hkr : N 0 0 - r = k + 1 := by omega
    have hkOK := hN.2.2 k hk0 hk1
    unfold vi_
    rw [hk]
    rw [hkr] at ih
    have hei : ∀ R c, Ei_ N size goal m P v t k R c → ∀ A : List Int, lx_ R (P ++ k :: A) := by
      rintro R c ⟨k', A', h1, -, rfl, -, -⟩ A
      exact lx_app P _ _ (Or.inl h1)
    by_cases hok : N 2 k = v ∧ N 1 k = 0 ∧ k ∉ P ∧ 0 ≤ fb_ N k t (tk_ N k size)
    · rw [if_pos hok]
      obtain ⟨o1, o2, o3, o4⟩ := hok
      have hcin : cin_ N k t size < 1000000 := (cin_lt hkOK hs ht).mpr ⟨o2, o4⟩
      have hnd : (P ++ [k]).Nodup := by
        rw [List.nodup_append]
        refine ⟨hP, by simp, ?_⟩
        intro a ha b hb
        rw [List.mem_singleton] at hb
        intro e
        exact o3 (by rw [← hb, ← e]; exact ha)
      refine ih _ (by omega) ?_
      have h1 := kb_Bst (goal := goal) (v := N 3 k) (t := cin_ N k t size) (P := P ++ [k]) hB (fun R c hc hl => by
        rcases hc with hc | hc
        · exact hO R c hc [k] (by simp) hl
        · exact hei R c hc [])
      have h2 := hf (P ++ [k]) (N 3 k) (cin_ N k t size) _ _ hcin hnd (by
        intro R c hc A hA hl
        rw [List.append_assoc] at hl ⊢
        rcases hc with (hc | hc) | ⟨rfl, -, -⟩
        · exact hO R c hc _ (by simp) hl
        · exact hei R c hc A
        · exfalso
          have hA0 : A.length ≠ 0 := fun q => hA (List.length_eq_zero_iff.mp q)
          rw [List.length_append, List.length_append, List.length_append] at hl
          omega) h1
      refine Bst_congr h2 (fun R c => ?_)
      constructor
      · rintro (((hc | ⟨k', A, g1, g2, g3, g4, g5⟩) | ⟨rfl, rfl, g⟩) | ⟨A, g1, g2, g3, g4, g5⟩)
        · exact Or.inl hc
        · exact Or.inr ⟨k', A, by omega, g2, g3, g4, g5⟩
        · exact Or.inr ⟨k, [], by omega, by simp, rfl, hnd, ⟨hk0, hk1, o1, hcin, g.symm, rfl⟩⟩
        · cases m with
          | zero =>
            exfalso
            have : A.length ≠ 0 := fun q => g1 (List.length_eq_zero_iff.mp q)
            omega
          | succ m =>
            refine Or.inr ⟨k, A, by omega, g2, by rw [g3]; simp, g4, ⟨hk0, hk1, o1, hcin, g5⟩⟩
      · rintro (hc | ⟨k', A, g1, g2, g3, g4, g5⟩)
        · exact Or.inl (Or.inl (Or.inl hc))
        · by_cases ek : k' = k
          · subst ek
            obtain ⟨w1, w2, w3, w4, w5⟩ := g5
            cases A with
            | nil =>
              obtain ⟨e1, e2⟩ := w5
              exact Or.inl (Or.inr ⟨g3, e2, e1.symm⟩)
            | cons x xs => exact Or.inr ⟨x :: xs, by simp, g2, by rw [g3]; simp, g4, w5⟩
          · exact Or.inl (Or.inl (Or.inr ⟨k', A, by omega, g2, g3, g4, g5⟩))
    · rw [if_neg hok]
      refine ih B (by omega) (Bst_congr hB (fun R c => ?_))
      constructor
      · rintro (hc | ⟨k', A, g1, g2, g3, g4, g5⟩)
        · exact Or.inl hc
        · exact Or.inr ⟨k', A, by omega, g2, g3, g4, g5⟩
      · rintro (hc | ⟨k', A, g1, g2, g3, g4, g5⟩)
        · exact Or.inl hc
        · by_cases ek : k' = k
          · exfalso
            subst ek
            obtain ⟨w1, w2, w3, w4, w5⟩ := g5
            have hc := (cin_lt hkOK hs ht).mp w4
            refine hok ⟨w3, hc.1, ?_, hc.2⟩
            intro hm
            rw [g3, List.nodup_append] at g4
            exact g4.2.2 k' hm k' List.mem_cons_self rfl
          · exact Or.inr ⟨k', A, by omega, g2, g3, g4, g5⟩
theorem vs_Bst {N : St_} (hN : nOK_ N) {size goal : Int} (hs : 1 ≤ size) : ∀ (m : Nat) (P : List Int) (v t : Int) (B : Option (List Int × Int)) (C : List Int → Int → Prop), t < 1000000 → P.Nodup → Or_ C P → Bst_ B C → Bst_ (vs_ N size goal m P v t B) (fun R c => C R c ∨ Ex_ N size goal m P v t R c) := by
  intro m
  induction m with
  | zero =>
    intro P v t B C ht hP hO hB
    refine Bst_congr hB (fun R c => ⟨fun q => Or.inl q, ?_⟩)
    rintro (q | ⟨A, g1, g2, -⟩)
    · exact q
    · exact absurd (List.length_eq_zero_iff.mp (by omega)) g1
  | succ m ih =>
    intro P v t B C ht hP hO hB
    have hn := hN.1
    have h := vi_Bst (goal := goal) hN hs ih (v := v) ht hP hO (N 0 0).toNat B (by omega) (Bst_congr hB (fun R c => ⟨fun q => Or.inl q, by
      rintro (q | ⟨k, A, g1, g2, g3, g4, g5⟩)
      · exact q
      · have := g5.1
        omega⟩))
    refine Bst_congr h (fun R c => ?_)
    constructor
    · rintro (q | ⟨k, A, g1, g2, g3, g4, g5⟩)
      · exact Or.inl q
      · exact Or.inr ⟨k :: A, by simp, by simp; omega, g3, g4, g5⟩
    · rintro (q | ⟨A, g1, g2, g3, g4, g5⟩)
      · exact Or.inl q
      · cases A with
        | nil => exact absurd rfl g1
        | cons k A => exact Or.inr ⟨k, A, g5.2.1, by simpa using g2, g3, g4, g5⟩
/-- the search's answer is the best route -/
theorem vs_best {N : St_} (hN : nOK_ N) {size goal v t : Int} (hs : 1 ≤ size) (ht : t < 1000000) : vs_ N size goal 5 [] v t none = bf_ N size v t goal := by
  have h := vs_Bst (goal := goal) hN hs 5 [] v t none (fun _ _ => False) ht List.nodup_nil (fun R c q => q.elim) ⟨fun _ R c q => q, fun L a q => by cases q⟩
  cases hB : vs_ N size goal 5 [] v t none with
  | none =>
    symm
    refine bf_none (fun R c hR1 hR2 hR3 => ?_)
    rw [hB] at h
    have hno := h.1 rfl
    by_cases hd : R.Nodup
    · exact hno R c (Or.inr ⟨R, hR1, hR2, rfl, hd, hR3⟩)
    · obtain ⟨L0, a0, g1, g2, g3, g4, g5⟩ := wk_nodup hN hs R.length R c (Nat.le_refl _) hR3 hd
      exact hno L0 a0 (Or.inr ⟨L0, g5, by omega, rfl, g3, g1⟩)
  | some q =>
    obtain ⟨L, a⟩ := q
    symm
    apply bf_some
    rw [hB] at h
    obtain ⟨h1, h2⟩ := h.2 L a rfl
    rcases h1 with h1 | ⟨A, g1, g2, g3, g4, g5⟩
    · exact h1.elim
    · rw [List.nil_append] at g3
      subst g3
      refine ⟨g5, g1, g2, fun R c hR1 hR2 hR3 => ?_⟩
      by_cases hd : R.Nodup
      · exact h2 R c (Or.inr ⟨R, hR1, hR2, rfl, hd, hR3⟩)
      · obtain ⟨L0, a0, e1, e2, e3, e4, e5⟩ := wk_nodup hN hs R.length R c (Nat.le_refl _) hR3 hd
        have := h2 L0 a0 (Or.inr ⟨L0, e5, by omega, rfl, e3, e1⟩)
        rcases this with z | ⟨z, z1 | ⟨z1, -⟩⟩
        · exact Or.inl (by omega)
        · by_cases hac : a < c
          · exact Or.inl hac
          · exact Or.inr ⟨by omega, Or.inl (by omega)⟩
        · by_cases hac : a < c
          · exact Or.inl hac
          · exact Or.inr ⟨by omega, Or.inl (by omega)⟩
end
section
/-! THE MODEL's SMALL METHODS; how its state stands for the abstract one (R_) -/
def R_ (S Y : St_) : Prop := (Y 0 0 = S 19 0 ∧ Y 1 0 = S 0 0 ∧ Y 9 0 = S 9 0) ∧ (Y 2 = S 2 ∧ Y 3 = S 3 ∧ Y 4 = S 4 ∧ Y 5 = S 5 ∧ Y 6 = S 6 ∧ Y 7 = S 7 ∧ Y 8 = S 1) ∧ (Y 10 = S 10 ∧ Y 11 = S 11 ∧ Y 12 = S 12 ∧ Y 13 = S 13 ∧ Y 15 = S 16) ∧ (∀ b, 0 ≤ b → b < S 9 0 → Y 14 b = 1 - S 14 b) ∧ ∀ b i, bk_ S b i → Y 16 (64 * b + i) = S 17 (100 * b + i) ∧ Y 17 (64 * b + i) = S 18 (100 * b + i)
def Mp_ (Y : St_) : Prop := ∃ S, R_ S Y ∧ J_ S
theorem R_tk {S Y : St_} (h : R_ S Y) (k s : Int) : tk_ Y k s = tk_ S k s := by
  unfold tk_
  rw [h.2.1.2.2.2.2.1]
theorem R_fr {S Y Z : St_} {F : List Nat} (h : R_ S Y) (hf : fr_ F Y Z) (hs : ∀ f ∈ F, 18 ≤ f) : R_ S Z := by
  have e : ∀ f, f < 18 → Z f = Y f := fun f hlt => hf f (fun q => by have := hs f q; omega)
  unfold R_ at *
  rw [e 0 (by decide), e 1 (by decide), e 2 (by decide), e 3 (by decide), e 4 (by decide), e 5 (by decide), e 6 (by decide), e 7 (by decide), e 8 (by decide), e 9 (by decide), e 10 (by decide), e 11 (by decide), e 12 (by decide), e 13 (by decide), e 14 (by decide), e 15 (by decide), e 16 (by decide), e 17 (by decide)]
  exact h
def pM_badEnds (_ : Int) (_ : St_) : Prop := True
def qM_badEnds (e : Int) (X : St_) (z : Int) (Y : St_) : Prop := Y = X ∧ (z = 0 ∨ z = 1) ∧ (z = 0 ↔ 0 ≤ e ∧ e < 36 ∧ e / 6 ≠ e % 6)
def csM_badEnds : Cs_ := (1, false, 2, (fun as X => match as with
  | [a] => pM_badEnds a X
  | _ => False), (fun as X z Y => match as with
  | [a] => qM_badEnds a X z Y
  | _ => False))
def mM_badEnds : Mt_ := (LM, [], 2, EM_badEnds)
set_option maxRecDepth 100000 in
theorem sM_badEnds_0 {Rt : Int → St_ → Prop} {G : Nat → Lo_ → List Vl_ → St_ → Prop} (hG : Clo_ mM_badEnds Rt G) {X : St_} {e : Int} (h : (e < 0 → ((1 : Int) = 0 ∨ (1 : Int) = 1) ∧ Rt 1 X) ∧ (0 ≤ e → (35 < e → ((1 : Int) = 0 ∨ (1 : Int) = 1) ∧ Rt 1 X) ∧ (e ≤ 35 → 0 ≤ e ∧ 0 < (6 : Int) ∧ 0 ≤ e ∧ 0 < (6 : Int) ∧ (¬ e / 6 = e % 6 → ((0 : Int) = 0 ∨ (0 : Int) = 1) ∧ Rt 0 X) ∧ (e / 6 = e % 6 → ((1 : Int) = 0 ∨ (1 : Int) = 1) ∧ Rt 1 X)))) : G 0 [some (.inr 27), some (.inl e)] [] X := run_ hG [] 15 0 _ _ X h
theorem vM_badEnds {e : Int} {X : St_} (r1 : zR e) (hX : rgX_ X) (hp : pM_badEnds e X) {G : Nat → Lo_ → List Vl_ → St_ → Prop} (hG : Clo_ mM_badEnds (qM_badEnds e X) G) : G 0 [some (.inr 27), some (.inl e)] [] X := by
  refine sM_badEnds_0 hG ?_
  simp only [qM_badEnds, true_and]
  refine ⟨fun h1 => ?_, fun h1 => ?_⟩ <;> grind
theorem ckM_badEnds : ∀ q ∈ mM_badEnds.2.1, Ck_ 1 RX1 LM 0 q.1 q.2 := fun _ h => absurd h List.not_mem_nil
theorem okM_badEnds : Cn_ 1 LM yX1_badEnds cX1_badEnds 2 0 csM_badEnds := by
  refine Cn_of mM_badEnds KlM hfM (by decide +kernel) rfl rfl rfl hM_badEnds ckM_badEnds (Or.inl (by decide)) ?_
  intro as X hl hr hX hp G hG
  match as, hl with
  | [a], _ => exact vM_badEnds (hr _ (by simp)) hX hp hG
def pM_badSize (_ : Int) (_ : St_) : Prop := True
def qM_badSize (e : Int) (X : St_) (z : Int) (Y : St_) : Prop := Y = X ∧ (z = 0 ∨ z = 1) ∧ (z = 0 ↔ 1 ≤ e ∧ e ≤ 30)
def csM_badSize : Cs_ := (1, false, 2, (fun as X => match as with
  | [a] => pM_badSize a X
  | _ => False), (fun as X z Y => match as with
  | [a] => qM_badSize a X z Y
  | _ => False))
def mM_badSize : Mt_ := (LM, [], 2, EM_badSize)
set_option maxRecDepth 100000 in
theorem sM_badSize_0 {Rt : Int → St_ → Prop} {G : Nat → Lo_ → List Vl_ → St_ → Prop} (hG : Clo_ mM_badSize Rt G) {X : St_} {e : Int} (h : (e < 1 → ((1 : Int) = 0 ∨ (1 : Int) = 1) ∧ Rt 1 X) ∧ (1 ≤ e → (e ≤ 30 → ((0 : Int) = 0 ∨ (0 : Int) = 1) ∧ Rt 0 X) ∧ (30 < e → ((1 : Int) = 0 ∨ (1 : Int) = 1) ∧ Rt 1 X))) : G 0 [some (.inr 27), some (.inl e)] [] X := run_ hG [] 9 0 _ _ X h
theorem vM_badSize {e : Int} {X : St_} (r1 : zR e) (hX : rgX_ X) (hp : pM_badSize e X) {G : Nat → Lo_ → List Vl_ → St_ → Prop} (hG : Clo_ mM_badSize (qM_badSize e X) G) : G 0 [some (.inr 27), some (.inl e)] [] X := by
  refine sM_badSize_0 hG ?_
  simp only [qM_badSize, true_and]
  refine ⟨fun h1 => ?_, fun h1 => ?_⟩ <;> grind
theorem ckM_badSize : ∀ q ∈ mM_badSize.2.1, Ck_ 1 RX1 LM 0 q.1 q.2 := fun _ h => absurd h List.not_mem_nil
theorem okM_badSize : Cn_ 1 LM yX1_badSize cX1_badSize 2 0 csM_badSize := by
  refine Cn_of mM_badSize KlM hfM (by decide +kernel) rfl rfl rfl hM_badSize ckM_badSize (Or.inl (by decide)) ?_
  intro as X hl hr hX hp G hG
  match as, hl with
  | [a], _ => exact vM_badSize (hr _ (by simp)) hX hp hG
def pM_badBundle (_ : Int) (_ : St_) : Prop := True
def qM_badBundle (b : Int) (X : St_) (z : Int) (Y : St_) : Prop := Y = X ∧ (z = 0 ∨ z = 1) ∧ (z = 0 ↔ 0 ≤ b ∧ b < X 9 0)
def csM_badBundle : Cs_ := (1, false, 2, (fun as X => match as with
  | [a] => pM_badBundle a X
  | _ => False), (fun as X z Y => match as with
  | [a] => qM_badBundle a X z Y
  | _ => False))
def mM_badBundle : Mt_ := (LM, [], 2, EM_badBundle)
set_option maxRecDepth 100000 in
theorem sM_badBundle_0 {Rt : Int → St_ → Prop} {G : Nat → Lo_ → List Vl_ → St_ → Prop} (hG : Clo_ mM_badBundle Rt G) {X : St_} {b : Int} (h : (b < 0 → ((1 : Int) = 0 ∨ (1 : Int) = 1) ∧ Rt 1 X) ∧ (0 ≤ b → (b < X 9 0 → ((0 : Int) = 0 ∨ (0 : Int) = 1) ∧ Rt 0 X) ∧ (X 9 0 ≤ b → ((1 : Int) = 0 ∨ (1 : Int) = 1) ∧ Rt 1 X))) : G 0 [some (.inr 27), some (.inl b)] [] X := run_ hG [] 9 0 _ _ X h
theorem vM_badBundle {b : Int} {X : St_} (r1 : zR b) (hX : rgX_ X) (hp : pM_badBundle b X) {G : Nat → Lo_ → List Vl_ → St_ → Prop} (hG : Clo_ mM_badBundle (qM_badBundle b X) G) : G 0 [some (.inr 27), some (.inl b)] [] X := by
  refine sM_badBundle_0 hG ?_
  simp only [qM_badBundle, true_and]
  refine ⟨fun h1 => ?_, fun h1 => ?_⟩ <;> grind
theorem ckM_badBundle : ∀ q ∈ mM_badBundle.2.1, Ck_ 1 RX1 LM 0 q.1 q.2 := fun _ h => absurd h List.not_mem_nil
theorem okM_badBundle : Cn_ 1 LM yX1_badBundle cX1_badBundle 2 0 csM_badBundle := by
  refine Cn_of mM_badBundle KlM hfM (by decide +kernel) rfl rfl rfl hM_badBundle ckM_badBundle (Or.inl (by decide)) ?_
  intro as X hl hr hX hp G hG
  match as, hl with
  | [a], _ => exact vM_badBundle (hr _ (by simp)) hX hp hG
def pM_ticks (k size : Int) (X : St_) : Prop := 0 ≤ k ∧ k < 10 ∧ 1 ≤ size ∧ size ≤ 30 ∧ 1 ≤ X 6 k ∧ X 6 k ≤ 9
def qM_ticks (k size : Int) (X : St_) (z : Int) (Y : St_) : Prop := Y = X ∧ z = tk_ X k size
def csM_ticks : Cs_ := (2, false, 1, (fun as X => match as with
  | [a, b] => pM_ticks a b X
  | _ => False), (fun as X z Y => match as with
  | [a, b] => qM_ticks a b X z Y
  | _ => False))
def mM_ticks : Mt_ := (LM, [], 1, EM_ticks)
set_option maxRecDepth 100000 in
theorem sM_ticks_0 {Rt : Int → St_ → Prop} {G : Nat → Lo_ → List Vl_ → St_ → Prop} (hG : Clo_ mM_ticks Rt G) {X : St_} {k size : Int} (h : 0 ≤ k ∧ k < 10 ∧ (1 ≤ X 6 k → 0 ≤ k ∧ k < 10 ∧ zR (size + (X 6 k)) ∧ zR ((size + (X 6 k)) - 1) ∧ 0 ≤ (size + (X 6 k)) - 1 ∧ 0 < X 6 k ∧ Rt (((size + (X 6 k)) - 1) / (X 6 k)) X) ∧ (X 6 k < 1 → zR (size + 1) ∧ zR ((size + 1) - 1) ∧ 0 ≤ (size + 1) - 1 ∧ 0 < (1 : Int) ∧ Rt (((size + 1) - 1) / 1) X)) : G 0 [some (.inr 27), some (.inl k), some (.inl size)] [] X := run_ hG [] 19 0 _ _ X h
theorem vM_ticks {k size : Int} {X : St_} (r1 : zR k) (r2 : zR size) (hX : rgX_ X) (hp : pM_ticks k size X) {G : Nat → Lo_ → List Vl_ → St_ → Prop} (hG : Clo_ mM_ticks (qM_ticks k size X) G) : G 0 [some (.inr 27), some (.inl k), some (.inl size)] [] X := by
  obtain ⟨h1, h2, h3, h4, h5, h6⟩ := hp
  exact sM_ticks_0 hG ⟨h1, h2, fun _ => ⟨h1, h2, by omega, by omega, by omega, by omega, rfl, rfl⟩, fun h => by omega⟩
theorem ckM_ticks : ∀ q ∈ mM_ticks.2.1, Ck_ 1 RX1 LM 0 q.1 q.2 := fun _ h => absurd h List.not_mem_nil
theorem okM_ticks : Cn_ 1 LM yX1_ticks cX1_ticks 4 0 csM_ticks := by
  refine Cn_of mM_ticks KlM hfM (by decide +kernel) rfl rfl rfl hM_ticks ckM_ticks (Or.inl (by decide)) ?_
  intro as X hl hr hX hp G hG
  match as, hl with
  | [a, b], _ => exact vM_ticks (hr _ (by simp)) (hr _ (by simp)) hX hp hG
def pM_comesIn (k size begin : Int) (X : St_) : Prop := 0 ≤ k ∧ k < 10 ∧ 1 ≤ size ∧ size ≤ 30 ∧ 1 ≤ X 6 k ∧ X 6 k ≤ 9 ∧ 0 ≤ X 7 k ∧ X 7 k ≤ 9 ∧ 0 ≤ begin ∧ begin ≤ 1000
def qM_comesIn (k size begin : Int) (X : St_) (z : Int) (Y : St_) : Prop := Y = X ∧ z = begin + tk_ X k size + X 7 k
def csM_comesIn : Cs_ := (3, false, 1, (fun as X => match as with
  | [a, b, c] => pM_comesIn a b c X
  | _ => False), (fun as X z Y => match as with
  | [a, b, c] => qM_comesIn a b c X z Y
  | _ => False))
def mM_comesIn : Mt_ := (LM, [(77, csM_ticks)], 1, EM_comesIn)
set_option maxRecDepth 100000 in
theorem sM_comesIn_0 {Rt : Int → St_ → Prop} {G : Nat → Lo_ → List Vl_ → St_ → Prop} (hG : Clo_ mM_comesIn Rt G) {X : St_} {k size begin : Int} (h : pM_ticks k size X ∧ (∀ (z1 : Int) (Y1 : St_), qM_ticks k size X z1 Y1 → zR (begin + z1) ∧ 0 ≤ k ∧ k < 10 ∧ zR ((begin + z1) + (Y1 7 k)) ∧ Rt ((begin + z1) + (Y1 7 k)) Y1)) : G 0 [some (.inr 27), some (.inl k), some (.inl size), some (.inl begin)] [] X := run_ hG [] 12 0 _ _ X h
theorem vM_comesIn {k size begin : Int} {X : St_} (r1 : zR k) (r2 : zR size) (r3 : zR begin) (hX : rgX_ X) (hp : pM_comesIn k size begin X) {G : Nat → Lo_ → List Vl_ → St_ → Prop} (hG : Clo_ mM_comesIn (qM_comesIn k size begin X) G) : G 0 [some (.inr 27), some (.inl k), some (.inl size), some (.inl begin)] [] X := by
  obtain ⟨h1, h2, h3, h4, h5, h6, h7, h8, h9, h10⟩ := hp
  refine sM_comesIn_0 hG ⟨⟨h1, h2, h3, h4, h5, h6⟩, ?_⟩
  rintro z1 Y1 ⟨rfl, rfl⟩
  have t1 := tk_pos (X := Y1) (k := k) h5 h3
  have t2 := tk_le (X := Y1) (k := k) h5 h3
  exact ⟨by omega, h1, h2, by omega, rfl, rfl⟩
theorem ckM_comesIn : ∀ q ∈ mM_comesIn.2.1, Ck_ 1 RX1 LM 1 q.1 q.2 := List.forall_mem_cons.mpr ⟨⟨yX1_ticks, cX1_ticks, 4, 0, okM_ticks, by decide, by decide, by decide +kernel, rfl, ⟨by decide, by decide⟩, lw_V q370 q372 qs22 q34 q373⟩, fun _ h => absurd h List.not_mem_nil⟩
theorem okM_comesIn : Cn_ 1 LM yX1_comesIn cX1_comesIn 4 1 csM_comesIn := by
  refine Cn_of mM_comesIn KlM hfM (by decide +kernel) rfl rfl rfl hM_comesIn ckM_comesIn (Or.inl (by decide)) ?_
  intro as X hl hr hX hp G hG
  match as, hl with
  | [a, b, c], _ => exact vM_comesIn (hr _ (by simp)) (hr _ (by simp)) (hr _ (by simp)) hX hp hG
/-- a booking that overlaps -/
def ov_ (Y : St_) (k begin end_ b i : Int) : Prop := Y 16 (64 * b + i) = k ∧ Y 17 (64 * b + i) < end_ ∧ begin < Y 17 (64 * b + i) + tk_ Y k (Y 12 b)
def Fr_ (Y : St_) (k begin end_ : Int) : Prop := ∀ b i, 0 ≤ b → b < Y 9 0 → 0 ≤ i → i < Y 15 b → ¬ ov_ Y k begin end_ b i
def pM_isFree (k begin end_ : Int) (X : St_) : Prop := Mp_ X ∧ 0 ≤ k ∧ k < X 1 0
def qM_isFree (k begin end_ : Int) (X : St_) (z : Int) (Y : St_) : Prop := Y = X ∧ (z = 0 ∨ z = 1) ∧ (z = 1 ↔ Fr_ X k begin end_)
def csM_isFree : Cs_ := (3, false, 2, (fun as X => match as with
  | [a, b, c] => pM_isFree a b c X
  | _ => False), (fun as X z Y => match as with
  | [a, b, c] => qM_isFree a b c X z Y
  | _ => False))
def mM_isFree : Mt_ := (LM, [(77, csM_ticks)], 2, EM_isFree)
set_option maxRecDepth 100000 in
theorem sM_isFree_0 {Rt : Int → St_ → Prop} {G : Nat → Lo_ → List Vl_ → St_ → Prop} (hG : Clo_ mM_isFree Rt G) {X : St_} {k begin end_ : Int} (h : G 3 [some (.inr 27), some (.inl k), some (.inl begin), some (.inl end_), some (.inl 0)] [] X) : G 0 [some (.inr 27), some (.inl k), some (.inl begin), some (.inl end_)] [] X := run_ hG [(3, 5), (19, 6)] 2 0 _ _ X h
set_option maxRecDepth 100000 in
theorem sM_isFree_3 {Rt : Int → St_ → Prop} {G : Nat → Lo_ → List Vl_ → St_ → Prop} (hG : Clo_ mM_isFree Rt G) {X : St_} {k begin end_ b : Int} (h : (X 9 0 ≤ b → ((1 : Int) = 0 ∨ (1 : Int) = 1) ∧ Rt 1 X) ∧ (b < X 9 0 → zR (64 * b) ∧ G 19 [some (.inr 27), some (.inl k), some (.inl begin), some (.inl end_), some (.inl b), some (.inl (64 * b))] [] X)) : G 3 [some (.inr 27), some (.inl k), some (.inl begin), some (.inl end_), some (.inl b)] [] X := run_ hG [(3, 5), (19, 6)] 8 3 _ _ X h
set_option maxRecDepth 100000 in
theorem sM_isFree_19 {Rt : Int → St_ → Prop} {G : Nat → Lo_ → List Vl_ → St_ → Prop} (hG : Clo_ mM_isFree Rt G) {X : St_} {k begin end_ b i : Int} (h : zR (64 * b) ∧ 0 ≤ b ∧ b < 10 ∧ zR ((64 * b) + (X 15 b)) ∧ ((64 * b) + (X 15 b) ≤ i → zR (b + 1) ∧ G 3 [some (.inr 27), some (.inl k), some (.inl begin), some (.inl end_), some (.inl (b + 1))] [] X) ∧ (i < (64 * b) + (X 15 b) → 0 ≤ i ∧ i < 640 ∧ (¬ X 16 i = k → zR (i + 1) ∧ G 19 [some (.inr 27), some (.inl k), some (.inl begin), some (.inl end_), some (.inl b), some (.inl (i + 1))] [] X) ∧ (X 16 i = k → 0 ≤ i ∧ i < 640 ∧ (end_ ≤ X 17 i → zR (i + 1) ∧ G 19 [some (.inr 27), some (.inl k), some (.inl begin), some (.inl end_), some (.inl b), some (.inl (i + 1))] [] X) ∧ (X 17 i < end_ → 0 ≤ i ∧ i < 640 ∧ 0 ≤ b ∧ b < 10 ∧ pM_ticks k (X 12 b) X ∧ (∀ (z1 : Int) (Y1 : St_), qM_ticks k (X 12 b) X z1 Y1 → zR ((X 17 i) + z1) ∧ ((X 17 i) + z1 ≤ begin → zR (i + 1) ∧ G 19 [some (.inr 27), some (.inl k), some (.inl begin), some (.inl end_), some (.inl b), some (.inl (i + 1))] [] Y1) ∧ (begin < (X 17 i) + z1 → ((0 : Int) = 0 ∨ (0 : Int) = 1) ∧ Rt 0 Y1)))))) : G 19 [some (.inr 27), some (.inl k), some (.inl begin), some (.inl end_), some (.inl b), some (.inl i)] [] X := run_ hG [(3, 5), (19, 6)] 38 19 _ _ X h
theorem lM_isFree19 {k begin end_ : Int} {X : St_} (hp : pM_isFree k begin end_ X) {G : Nat → Lo_ → List Vl_ → St_ → Prop} (hG : Clo_ mM_isFree (qM_isFree k begin end_ X) G) {b : Int} (hb0 : 0 ≤ b) (hb1 : b < X 9 0)
    (hk : (∀ i, 0 ≤ i → i < X 15 b → ¬ ov_ X k begin end_ b i) → G 3 [some (.inr 27), some (.inl k), some (.inl begin), some (.inl end_), some (.inl (b + 1))] [] X) :
    ∀ (d : Nat) (j : Int), X 15 b - j ≤ d → 0 ≤ j → j ≤ X 15 b → (∀ i, 0 ≤ i → i < j → ¬ ov_ X k begin end_ b i) → G 19 [some (.inr 27), some (.inl k), some (.inl begin), some (.inl end_), some (.inl b), some (.inl (64 * b + j))] [] X := by
  obtain ⟨⟨S, hR, hJ⟩, hk0, hk1⟩ := hp
  have hg := hJ.1
  have h9 := hg.2.2.1
  have hb1' : b < S 9 0 := by rw [← hR.1.2.2]; exact hb1
  have hB := hg.2.2.2.2 b hb0 hb1'
  have hB2 := hB.2.2.1
  rw [← hR.2.2.1.2.2.2.2] at hB2
  have hk1' : k < S 0 0 := by rw [← hR.1.2.1]; exact hk1
  have hkS := hg.1.2.2 k hk0 hk1'
  have hn := hg.1.2.1
  obtain ⟨d1, d2, d3, d4, d5, d6, d7, d8, d9, d10, d11⟩ := hkS
  have e6 : X 6 k = S 6 k := by rw [hR.2.1.2.2.2.2.1]
  have e12 : X 12 b = S 12 b := by rw [hR.2.2.1.2.2.1]
  have hs1 := hB.1.2.2.2.2.2.1
  have hs2 := hB.1.2.2.2.2.2.2
  have t1 := tk_pos (X := X) (k := k) (size := X 12 b) (by rw [e6]; exact d8) (by rw [e12]; exact hs1)
  have t2 := tk_le (X := X) (k := k) (size := X 12 b) (by rw [e6]; exact d8) (by rw [e12]; exact hs1)
  intro d
  induction d with
  | zero =>
    intro j hd hj0 hj1 hno
    exact sM_isFree_19 hG ⟨by omega, hb0, by omega, by omega, fun _ => ⟨by omega, hk (fun i i0 i1 => hno i i0 (by omega))⟩, fun h => by omega⟩
  | succ d ih =>
    intro j hd hj0 hj1 hno
    have next : j < X 15 b → ¬ ov_ X k begin end_ b j → G 19 [some (.inr 27), some (.inl k), some (.inl begin), some (.inl end_), some (.inl b), some (.inl (64 * b + j + 1))] [] X := by
      intro hlt hn
      rw [show 64 * b + j + 1 = 64 * b + (j + 1) by omega]
      refine ih (j + 1) (by omega) (by omega) (by omega) (fun i i0 i1 => ?_)
      by_cases ei : i = j
      · rw [ei]; exact hn
      · exact hno i i0 (by omega)
    refine sM_isFree_19 hG ⟨by omega, hb0, by omega, by omega, fun _ => ⟨by omega, hk (fun i i0 i1 => hno i i0 (by omega))⟩, fun h => ?_⟩
    have hlt : j < X 15 b := by omega
    have hbk : bk_ S b j := ⟨hb0, hb1', hj0, by rw [← hR.2.2.1.2.2.2.2]; exact hlt⟩
    have hcb := cb_bound hg hbk
    rw [← (hR.2.2.2.2 b j hbk).2] at hcb
    refine ⟨by omega, by omega, fun hne => ⟨by omega, next hlt (fun q => hne q.1)⟩, fun he => ⟨by omega, by omega, fun hge => ⟨by omega, next hlt (fun q => by have := q.2.1; omega)⟩, fun hl => ⟨by omega, by omega, hb0, by omega, ⟨hk0, by omega, by rw [e12]; exact hs1, by rw [e12]; exact hs2, by rw [e6]; exact d8, by rw [e6]; exact d9⟩, ?_⟩⟩⟩
    rintro z1 Y1 ⟨rfl, rfl⟩
    refine ⟨by omega, fun hle => ⟨by omega, next hlt (fun q => by have := q.2.2; omega)⟩, fun hgt => ⟨by omega, rfl, Or.inl rfl, ⟨fun q => by omega, fun q => absurd ⟨he, hl, hgt⟩ (q b j hb0 hb1 hj0 hlt)⟩⟩⟩
theorem lM_isFree3 {k begin end_ : Int} {X : St_} (hp : pM_isFree k begin end_ X) {G : Nat → Lo_ → List Vl_ → St_ → Prop} (hG : Clo_ mM_isFree (qM_isFree k begin end_ X) G) :
    ∀ (d : Nat) (b : Int), X 9 0 - b ≤ d → 0 ≤ b → (∀ c i, 0 ≤ c → c < b → c < X 9 0 → 0 ≤ i → i < X 15 c → ¬ ov_ X k begin end_ c i) → G 3 [some (.inr 27), some (.inl k), some (.inl begin), some (.inl end_), some (.inl b)] [] X := by
  have hp' := hp
  obtain ⟨⟨S, hR, hJ⟩, hk0, hk1⟩ := hp'
  have h9 := hJ.1.2.2.1
  rw [← hR.1.2.2] at h9
  intro d
  induction d with
  | zero =>
    intro b hd hb0 hno
    exact sM_isFree_3 hG ⟨fun h => ⟨by omega, rfl, by omega, ⟨fun _ c i c0 c1 i0 i1 => hno c i c0 (by omega) c1 i0 i1, fun _ => rfl⟩⟩, fun h => by omega⟩
  | succ d ih =>
    intro b hd hb0 hno
    refine sM_isFree_3 hG ⟨fun h => ⟨by omega, rfl, by omega, ⟨fun _ c i c0 c1 i0 i1 => hno c i c0 (by omega) c1 i0 i1, fun _ => rfl⟩⟩, fun h => ⟨by omega, ?_⟩⟩
    have hB := (hJ.1.2.2.2.2 b hb0 (by rw [← hR.1.2.2]; exact h)).2.2.1
    rw [← hR.2.2.1.2.2.2.2] at hB
    have q := lM_isFree19 hp hG hb0 h (fun hall => ih (b + 1) (by omega) (by omega) (fun c i c0 c1 c2 i0 i1 => by
      by_cases ec : c = b
      · rw [ec] at i1 ⊢; exact hall i i0 i1
      · exact hno c i c0 (by omega) c2 i0 i1)) (X 15 b).toNat 0 (by omega) (by omega) (by omega) (fun i i0 i1 => by omega)
    rw [Int.add_zero] at q
    exact q
theorem vM_isFree {k begin end_ : Int} {X : St_} (r1 : zR k) (r2 : zR begin) (r3 : zR end_) (hX : rgX_ X) (hp : pM_isFree k begin end_ X) {G : Nat → Lo_ → List Vl_ → St_ → Prop} (hG : Clo_ mM_isFree (qM_isFree k begin end_ X) G) : G 0 [some (.inr 27), some (.inl k), some (.inl begin), some (.inl end_)] [] X := by
  exact sM_isFree_0 hG (lM_isFree3 hp hG (X 9 0).toNat 0 (by omega) (by omega) (fun c i c0 c1 => by omega))
theorem ckM_isFree : ∀ q ∈ mM_isFree.2.1, Ck_ 1 RX1 LM 1 q.1 q.2 := List.forall_mem_cons.mpr ⟨⟨yX1_ticks, cX1_ticks, 4, 0, okM_ticks, by decide, by decide, by decide +kernel, rfl, ⟨by decide, by decide⟩, lw_V q370 q372 qs22 q34 q373⟩, fun _ h => absurd h List.not_mem_nil⟩
theorem okM_isFree : Cn_ 1 LM yX1_isFree cX1_isFree 6 1 csM_isFree := by
  refine Cn_of mM_isFree KlM hfM (by decide +kernel) rfl rfl rfl hM_isFree ckM_isFree (Or.inl (by decide)) ?_
  intro as X hl hr hX hp G hG
  match as, hl with
  | [a, b, c], _ => exact vM_isFree (hr _ (by simp)) (hr _ (by simp)) (hr _ (by simp)) hX hp hG
theorem okb_Y {S Y : St_} (hR : R_ S Y) (hJ : J_ S) {k : Int} (hk0 : 0 ≤ k) (hk1 : k < S 0 0) {size ready b : Int} (hs : 1 ≤ size) : okb_ S k ready (tk_ S k size) b ↔ ready ≤ b ∧ Y 4 k ≤ b ∧ b + tk_ Y k size ≤ Y 5 k ∧ Fr_ Y k b (b + tk_ Y k size) := by
  obtain ⟨hg, hBZ, hDJ⟩ := hJ
  have hkS := hg.1.2.2 k hk0 hk1
  have hn := hg.1.2.1
  obtain ⟨d1, d2, d3, d4, d5, d6, d7, d8, d9, d10, d11⟩ := hkS
  have t1 := tk_pos (X := S) (k := k) (size := size) d8 hs
  rw [R_tk hR, hR.2.1.2.2.1, hR.2.1.2.2.2.1]
  unfold okb_
  constructor
  · rintro ⟨a1, a2, a3, a4⟩
    refine ⟨a1, a2, a3, fun c i c0 c1 i0 i1 hov => ?_⟩
    rw [hR.1.2.2] at c1
    rw [hR.2.2.1.2.2.2.2] at i1
    have hbk : bk_ S c i := ⟨c0, c1, i0, i1⟩
    obtain ⟨e1, e2⟩ := hR.2.2.2.2 c i hbk
    obtain ⟨v1, v2, v3⟩ := hov
    rw [e1] at v1
    rw [e2] at v2 v3
    rw [R_tk hR, hR.2.2.1.2.2.1] at v3
    have hcb := cb_bound hg hbk
    rw [v1] at hcb
    have cov : ∀ t, b ≤ t → t < b + tk_ S k size → S 18 (100 * c + i) ≤ t → t < S 18 (100 * c + i) + tk_ S k (S 12 c) → False := by
      intro t q1 q2 q3 q4
      rcases hBZ k t hk0 (by omega) (by omega) (by omega) with ⟨z, o⟩ | ⟨z, o⟩
      · have := a4 t q1 q2
        omega
      · exact o ⟨c, i, hbk, v1, q3, q4⟩
    by_cases hle : b ≤ S 18 (100 * c + i)
    · exact cov (S 18 (100 * c + i)) hle v2 (by omega) (by omega)
    · exact cov b (by omega) (by omega) (by omega) v3
  · rintro ⟨a1, a2, a3, a4⟩
    refine ⟨a1, a2, a3, fun t q1 q2 => ?_⟩
    rcases hBZ k t hk0 (by omega) (by omega) (by omega) with ⟨z, o⟩ | ⟨z, o⟩
    · exfalso
      obtain ⟨c, i, hbk, v1, v2, v3⟩ := o
      obtain ⟨e1, e2⟩ := hR.2.2.2.2 c i hbk
      refine a4 c i hbk.1 (by rw [hR.1.2.2]; exact hbk.2.1) hbk.2.2.1 (by rw [hR.2.2.1.2.2.2.2]; exact hbk.2.2.2) ⟨by rw [e1]; exact v1, by rw [e2]; omega, ?_⟩
      rw [e2, R_tk hR, hR.2.2.1.2.2.1]
      omega
    · exact z
def pM_earliest (k size ready : Int) (X : St_) : Prop := Mp_ X ∧ 0 ≤ k ∧ k < X 1 0 ∧ 1 ≤ size ∧ size ≤ 30
def qM_earliest (k size ready : Int) (X : St_) (z : Int) (Y : St_) : Prop := Y = X ∧ ∀ S, R_ S X → J_ S → z = fb_ S k ready (tk_ S k size)
def csM_earliest : Cs_ := (3, false, 1, (fun as X => match as with
  | [a, b, c] => pM_earliest a b c X
  | _ => False), (fun as X z Y => match as with
  | [a, b, c] => qM_earliest a b c X z Y
  | _ => False))
def mM_earliest : Mt_ := (LM, [(77, csM_ticks), (85, csM_isFree)], 1, EM_earliest)
set_option maxRecDepth 100000 in
theorem sM_earliest_0 {Rt : Int → St_ → Prop} {G : Nat → Lo_ → List Vl_ → St_ → Prop} (hG : Clo_ mM_earliest Rt G) {X : St_} {k size ready : Int} (h : pM_ticks k size X ∧ (∀ (z1 : Int) (Y1 : St_), qM_ticks k size X z1 Y1 → 0 ≤ k ∧ k < 10 ∧ (ready ≤ Y1 4 k → 0 ≤ k ∧ k < 10 ∧ G 34 [some (.inr 27), some (.inl k), some (.inl size), some (.inl ready), some (.inl z1), some (.inl (Y1 4 k)), some (.inl (Y1 4 k))] [] Y1) ∧ (Y1 4 k < ready → G 34 [some (.inr 27), some (.inl k), some (.inl size), some (.inl ready), some (.inl z1), some (.inl ready), some (.inl ready)] [] Y1))) : G 0 [some (.inr 27), some (.inl k), some (.inl size), some (.inl ready)] [] X := run_ hG [(34, 7)] 18 0 _ _ X h
set_option maxRecDepth 100000 in
theorem sM_earliest_34 {Rt : Int → St_ → Prop} {G : Nat → Lo_ → List Vl_ → St_ → Prop} (hG : Clo_ mM_earliest Rt G) {X : St_} {k size ready need first begin : Int} (h : 0 ≤ k ∧ k < 10 ∧ zR ((X 5 k) - need) ∧ ((X 5 k) - need < begin → Rt (-1) X) ∧ (begin ≤ (X 5 k) - need → zR (begin + need) ∧ pM_isFree k begin (begin + need) X ∧ (∀ (z1 : Int) (Y1 : St_), qM_isFree k begin (begin + need) X z1 Y1 → (z1 = 0 → zR (begin + 1) ∧ G 34 [some (.inr 27), some (.inl k), some (.inl size), some (.inl ready), some (.inl need), some (.inl first), some (.inl (begin + 1))] [] Y1) ∧ (¬ z1 = 0 → Rt begin Y1)))) : G 34 [some (.inr 27), some (.inl k), some (.inl size), some (.inl ready), some (.inl need), some (.inl first), some (.inl begin)] [] X := run_ hG [(34, 7)] 18 34 _ _ X h
theorem lM_earliest {k size ready : Int} {X : St_} (hp : pM_earliest k size ready X) {G : Nat → Lo_ → List Vl_ → St_ → Prop} (hG : Clo_ mM_earliest (qM_earliest k size ready X) G) {first : Int} (hf1 : ready ≤ first) (hf2 : X 4 k ≤ first) (hf3 : first = ready ∨ first = X 4 k) :
    ∀ (d : Nat) (begin : Int), X 5 k - begin < d → zR begin → first ≤ begin → (∀ b, first ≤ b → b < begin → ¬ Fr_ X k b (b + tk_ X k size)) → G 34 [some (.inr 27), some (.inl k), some (.inl size), some (.inl ready), some (.inl (tk_ X k size)), some (.inl first), some (.inl begin)] [] X := by
  obtain ⟨⟨S, hR, hJ⟩, hk0, hk1, hs1, hs2⟩ := hp
  have hk1' : k < S 0 0 := by rw [← hR.1.2.1]; exact hk1
  have hkS := hJ.1.1.2.2 k hk0 hk1'
  have hn := hJ.1.1.2.1
  obtain ⟨d1, d2, d3, d4, d5, d6, d7, d8, d9, d10, d11⟩ := hkS
  have t1 := tk_pos (X := S) (k := k) (size := size) d8 hs1
  have t2 := tk_le (X := S) (k := k) (size := size) d8 hs1
  rw [← R_tk hR] at t1 t2
  rw [← hR.2.1.2.2.2.1] at d6 d7
  rw [← hR.2.1.2.2.1] at d5 d6
  have none_ : ∀ begin, X 5 k - tk_ X k size < begin → (∀ b, first ≤ b → b < begin → ¬ Fr_ X k b (b + tk_ X k size)) → qM_earliest k size ready X (-1) X := by
    intro begin hlt hno
    refine ⟨rfl, fun S' hR' hJ' => (lst_none fun b hb => ?_).symm⟩
    obtain ⟨a1, a2, a3, a4⟩ := (okb_Y hR' hJ' hk0 (by rw [← hR'.1.2.1]; exact hk1) hs1).mp hb
    exact hno b (by omega) (by omega) a4
  intro d
  induction d with
  | zero =>
    intro begin hd hz hle hno
    exact sM_earliest_34 hG ⟨hk0, by omega, by omega, fun h => none_ begin h hno, fun h => by omega⟩
  | succ d ih =>
    intro begin hd hz hle hno
    refine sM_earliest_34 hG ⟨hk0, by omega, by omega, fun h => none_ begin h hno, fun h => ⟨by omega, ⟨⟨S, hR, hJ⟩, hk0, hk1⟩, ?_⟩⟩
    rintro z1 Y1 ⟨rfl, hz1, hi⟩
    refine ⟨fun h0 => ⟨by omega, ih (begin + 1) (by omega) (by omega) (by omega) (fun b b0 b1 => ?_)⟩, fun hne => ⟨rfl, fun S' hR' hJ' => ?_⟩⟩
    · by_cases eb : b = begin
      · rw [eb]
        intro q
        have := hi.mpr q
        omega
      · exact hno b b0 (by omega)
    · have hfr := hi.mp (by omega)
      have hok := fun b => okb_Y (k := k) (ready := ready) (b := b) hR' hJ' hk0 (by rw [← hR'.1.2.1]; exact hk1) hs1
      refine (lst_eq ((hok begin).mpr ⟨by omega, by omega, by omega, hfr⟩) fun b hb => ?_).symm
      obtain ⟨a1, a2, a3, a4⟩ := (hok b).mp hb
      apply Int.not_lt.mp
      intro hlt
      exact hno b (by omega) hlt a4
theorem vM_earliest {k size ready : Int} {X : St_} (r1 : zR k) (r2 : zR size) (r3 : zR ready) (hX : rgX_ X) (hp : pM_earliest k size ready X) {G : Nat → Lo_ → List Vl_ → St_ → Prop} (hG : Clo_ mM_earliest (qM_earliest k size ready X) G) : G 0 [some (.inr 27), some (.inl k), some (.inl size), some (.inl ready)] [] X := by
  have hp' := hp
  obtain ⟨⟨S, hR, hJ⟩, hk0, hk1, hs1, hs2⟩ := hp'
  have hk1' : k < S 0 0 := by rw [← hR.1.2.1]; exact hk1
  have hkS := hJ.1.1.2.2 k hk0 hk1'
  have hn := hJ.1.1.2.1
  obtain ⟨d1, d2, d3, d4, d5, d6, d7, d8, d9, d10, d11⟩ := hkS
  have e6 : X 6 k = S 6 k := by rw [hR.2.1.2.2.2.2.1]
  refine sM_earliest_0 hG ⟨⟨hk0, by omega, hs1, hs2, by rw [e6]; exact d8, by rw [e6]; exact d9⟩, ?_⟩
  rintro z1 Y1 ⟨rfl, rfl⟩
  refine ⟨hk0, by omega, fun h => ⟨hk0, by omega, ?_⟩, fun h => ?_⟩
  · exact lM_earliest hp hG (first := Y1 4 k) h (by omega) (Or.inr rfl) (Y1 5 k - Y1 4 k + 1).toNat (Y1 4 k) (by omega) (hX _ _) (by omega) (fun b b0 b1 => by omega)
  · exact lM_earliest hp hG (first := ready) (by omega) (by omega) (Or.inl rfl) (Y1 5 k - ready + 1).toNat ready (by omega) r3 (by omega) (fun b b0 b1 => by omega)
theorem ckM_earliest : ∀ q ∈ mM_earliest.2.1, Ck_ 1 RX1 LM 2 q.1 q.2 := List.forall_mem_cons.mpr ⟨⟨yX1_ticks, cX1_ticks, 4, 0, okM_ticks, by decide, by decide, by decide +kernel, rfl, ⟨by decide, by decide⟩, lw_V q370 q372 qs22 q34 q373⟩, List.forall_mem_cons.mpr ⟨⟨yX1_isFree, cX1_isFree, 6, 1, okM_isFree, by decide, by decide, by decide +kernel, rfl, ⟨by decide, by decide⟩, lw_V q390 q392 qs27 q34 q393⟩, fun _ h => absurd h List.not_mem_nil⟩⟩
theorem okM_earliest : Cn_ 1 LM yX1_earliest cX1_earliest 7 2 csM_earliest := by
  refine Cn_of mM_earliest KlM hfM (by decide +kernel) rfl rfl rfl hM_earliest ckM_earliest (Or.inl (by decide)) ?_
  intro as X hl hr hX hp G hG
  match as, hl with
  | [a, b, c], _ => exact vM_earliest (hr _ (by simp)) (hr _ (by simp)) (hr _ (by simp)) hX hp hG
def pM_isTried (k depth : Int) (_ : St_) : Prop := 0 ≤ depth ∧ depth ≤ 5
def qM_isTried (k depth : Int) (X : St_) (z : Int) (Y : St_) : Prop := Y = X ∧ (z = 0 ∨ z = 1) ∧ (z = 1 ↔ ∃ i, 0 ≤ i ∧ i < depth ∧ X 18 i = k)
def csM_isTried : Cs_ := (2, false, 2, (fun as X => match as with
  | [a, b] => pM_isTried a b X
  | _ => False), (fun as X z Y => match as with
  | [a, b] => qM_isTried a b X z Y
  | _ => False))
def mM_isTried : Mt_ := (LM, [], 2, EM_isTried)
set_option maxRecDepth 100000 in
theorem sM_isTried_0 {Rt : Int → St_ → Prop} {G : Nat → Lo_ → List Vl_ → St_ → Prop} (hG : Clo_ mM_isTried Rt G) {X : St_} {k depth : Int} (h : G 2 [some (.inr 27), some (.inl k), some (.inl depth), some (.inl 0)] [] X) : G 0 [some (.inr 27), some (.inl k), some (.inl depth)] [] X := run_ hG [(2, 4)] 2 0 _ _ X h
set_option maxRecDepth 100000 in
theorem sM_isTried_2 {Rt : Int → St_ → Prop} {G : Nat → Lo_ → List Vl_ → St_ → Prop} (hG : Clo_ mM_isTried Rt G) {X : St_} {k depth i : Int} (h : (depth ≤ i → ((0 : Int) = 0 ∨ (0 : Int) = 1) ∧ Rt 0 X) ∧ (i < depth → 0 ≤ i ∧ i < 6 ∧ (¬ X 18 i = k → zR (i + 1) ∧ G 2 [some (.inr 27), some (.inl k), some (.inl depth), some (.inl (i + 1))] [] X) ∧ (X 18 i = k → ((1 : Int) = 0 ∨ (1 : Int) = 1) ∧ Rt 1 X))) : G 2 [some (.inr 27), some (.inl k), some (.inl depth), some (.inl i)] [] X := run_ hG [(2, 4)] 11 2 _ _ X h
theorem lM_isTried {k depth : Int} {X : St_} (hp : pM_isTried k depth X) {G : Nat → Lo_ → List Vl_ → St_ → Prop} (hG : Clo_ mM_isTried (qM_isTried k depth X) G) :
    ∀ (d : Nat) (i : Int), depth - i ≤ d → 0 ≤ i → (∀ j, 0 ≤ j → j < i → X 18 j ≠ k) → G 2 [some (.inr 27), some (.inl k), some (.inl depth), some (.inl i)] [] X := by
  obtain ⟨h1, h2⟩ := hp
  intro d
  induction d with
  | zero =>
    intro i hd h0 hno
    exact sM_isTried_2 hG ⟨fun h => ⟨by omega, rfl, by omega, ⟨fun q => by omega, fun ⟨j, j0, j1, j2⟩ => absurd j2 (hno j j0 (by omega))⟩⟩, fun h => by omega⟩
  | succ d ih =>
    intro i hd h0 hno
    refine sM_isTried_2 hG ⟨fun h => ⟨by omega, rfl, by omega, ⟨fun q => by omega, fun ⟨j, j0, j1, j2⟩ => absurd j2 (hno j j0 (by omega))⟩⟩, fun h => ⟨h0, by omega, fun hne => ⟨by omega, ih (i + 1) (by omega) (by omega) (fun j j0 j1 => ?_)⟩, fun he => ⟨by omega, rfl, by omega, ⟨fun _ => ⟨i, h0, h, he⟩, fun _ => rfl⟩⟩⟩⟩
    by_cases ej : j = i
    · rw [ej]; exact hne
    · exact hno j j0 (by omega)
theorem vM_isTried {k depth : Int} {X : St_} (r1 : zR k) (r2 : zR depth) (hX : rgX_ X) (hp : pM_isTried k depth X) {G : Nat → Lo_ → List Vl_ → St_ → Prop} (hG : Clo_ mM_isTried (qM_isTried k depth X) G) : G 0 [some (.inr 27), some (.inl k), some (.inl depth)] [] X := by
  exact sM_isTried_0 hG (lM_isTried hp hG depth.toNat 0 (by have := hp.1; omega) (by omega) (fun j j0 j1 => by omega))
theorem ckM_isTried : ∀ q ∈ mM_isTried.2.1, Ck_ 1 RX1 LM 0 q.1 q.2 := fun _ h => absurd h List.not_mem_nil
theorem okM_isTried : Cn_ 1 LM yX1_isTried cX1_isTried 4 0 csM_isTried := by
  refine Cn_of mM_isTried KlM hfM (by decide +kernel) rfl rfl rfl hM_isTried ckM_isTried (Or.inl (by decide)) ?_
  intro as X hl hr hX hp G hG
  match as, hl with
  | [a, b], _ => exact vM_isTried (hr _ (by simp)) (hr _ (by simp)) hX hp hG
def kp_ (X : St_) (d g : Int) : Prop := d ≠ 0 ∧ X 20 d = g ∧ (X 23 0 = 0 ∨ X 21 d < X 24 0 ∨ (X 21 d = X 24 0 ∧ d < X 23 0))
def pM_keep (depth goal : Int) (_ : St_) : Prop := 0 ≤ depth ∧ depth ≤ 5
def qM_keep (depth goal : Int) (X : St_) (_ : Int) (Y : St_) : Prop := (kp_ X depth goal ∧ fr_ [23, 24, 25, 26] X Y ∧ Y 23 0 = depth ∧ Y 24 0 = X 21 depth ∧ ∀ i, 0 ≤ i → i < depth → Y 25 i = X 18 i ∧ Y 26 i = X 19 i) ∨ (¬ kp_ X depth goal ∧ Y = X)
def csM_keep : Cs_ := (2, false, 0, (fun as X => match as with
  | [a, b] => pM_keep a b X
  | _ => False), (fun as X z Y => match as with
  | [a, b] => qM_keep a b X z Y
  | _ => False))
def mM_keep : Mt_ := (LM, [], 0, EM_keep)
set_option maxRecDepth 100000 in
theorem sM_keep_0 {Rt : Int → St_ → Prop} {G : Nat → Lo_ → List Vl_ → St_ → Prop} (hG : Clo_ mM_keep Rt G) {X : St_} {depth goal : Int} (h : (depth = 0 → Rt 0 X) ∧ (¬ depth = 0 → 0 ≤ depth ∧ depth < 7 ∧ (X 20 depth = goal → (X 23 0 = 0 → (¬ (1 : Int) = 0 → 0 ≤ depth ∧ depth < 7 ∧ G 85 [some (.inr 27), some (.inl depth), some (.inl goal), some (.inl 1), some (.inl 0)] [] (up_ (up_ X 23 0 depth) 24 0 (X 21 depth))) ∧ ((1 : Int) = 0 → Rt 0 X)) ∧ (¬ X 23 0 = 0 → 0 ≤ depth ∧ depth < 7 ∧ (X 21 depth < X 24 0 → (¬ (1 : Int) = 0 → 0 ≤ depth ∧ depth < 7 ∧ G 85 [some (.inr 27), some (.inl depth), some (.inl goal), some (.inl 1), some (.inl 0)] [] (up_ (up_ X 23 0 depth) 24 0 (X 21 depth))) ∧ ((1 : Int) = 0 → Rt 0 X)) ∧ (X 24 0 ≤ X 21 depth → 0 ≤ depth ∧ depth < 7 ∧ (¬ X 21 depth = X 24 0 → (¬ (0 : Int) = 0 → 0 ≤ depth ∧ depth < 7 ∧ G 85 [some (.inr 27), some (.inl depth), some (.inl goal), some (.inl 0), some (.inl 0)] [] (up_ (up_ X 23 0 depth) 24 0 (X 21 depth))) ∧ ((0 : Int) = 0 → Rt 0 X)) ∧ (X 21 depth = X 24 0 → (X 23 0 ≤ depth → (¬ (0 : Int) = 0 → 0 ≤ depth ∧ depth < 7 ∧ G 85 [some (.inr 27), some (.inl depth), some (.inl goal), some (.inl 0), some (.inl 0)] [] (up_ (up_ X 23 0 depth) 24 0 (X 21 depth))) ∧ ((0 : Int) = 0 → Rt 0 X)) ∧ (depth < X 23 0 → (¬ (1 : Int) = 0 → 0 ≤ depth ∧ depth < 7 ∧ G 85 [some (.inr 27), some (.inl depth), some (.inl goal), some (.inl 1), some (.inl 0)] [] (up_ (up_ X 23 0 depth) 24 0 (X 21 depth))) ∧ ((1 : Int) = 0 → Rt 0 X)))))) ∧ (¬ X 20 depth = goal → Rt 0 X))) : G 0 [some (.inr 27), some (.inl depth), some (.inl goal)] [] X := run_ hG [(85, 5)] 45 0 _ _ X h
set_option maxRecDepth 100000 in
theorem sM_keep_85 {Rt : Int → St_ → Prop} {G : Nat → Lo_ → List Vl_ → St_ → Prop} (hG : Clo_ mM_keep Rt G) {X : St_} {depth goal bt i : Int} (h : (depth ≤ i → Rt 0 X) ∧ (i < depth → 0 ≤ i ∧ i < 6 ∧ 0 ≤ i ∧ i < 5 ∧ 0 ≤ i ∧ i < 6 ∧ 0 ≤ i ∧ i < 5 ∧ zR (i + 1) ∧ G 85 [some (.inr 27), some (.inl depth), some (.inl goal), some (.inl bt), some (.inl (i + 1))] [] (up_ (up_ X 25 i (X 18 i)) 26 i (X 19 i)))) : G 85 [some (.inr 27), some (.inl depth), some (.inl goal), some (.inl bt), some (.inl i)] [] X := run_ hG [(85, 5)] 21 85 _ _ X h
theorem lM_keep {depth goal bt : Int} {X : St_} (hp : pM_keep depth goal X) {G : Nat → Lo_ → List Vl_ → St_ → Prop} (hG : Clo_ mM_keep (qM_keep depth goal X) G) (hk : kp_ X depth goal) :
    ∀ (d : Nat) (i : Int) (Z : St_), depth - i ≤ d → 0 ≤ i → fr_ [23, 24, 25, 26] X Z → Z 23 0 = depth → Z 24 0 = X 21 depth → (∀ j, 0 ≤ j → j < i → Z 25 j = X 18 j ∧ Z 26 j = X 19 j) → G 85 [some (.inr 27), some (.inl depth), some (.inl goal), some (.inl bt), some (.inl i)] [] Z := by
  obtain ⟨h1, h2⟩ := hp
  intro d
  induction d with
  | zero =>
    intro i Z hd h0 hf h23 h24 hj
    exact sM_keep_85 hG ⟨fun h => Or.inl ⟨hk, hf, h23, h24, fun j j0 j1 => hj j j0 (by omega)⟩, fun h => by omega⟩
  | succ d ih =>
    intro i Z hd h0 hf h23 h24 hj
    refine sM_keep_85 hG ⟨fun h => Or.inl ⟨hk, hf, h23, h24, fun j j0 j1 => hj j j0 (by omega)⟩, fun h => ⟨h0, by omega, h0, by omega, h0, by omega, h0, by omega, by omega, ?_⟩⟩
    refine ih (i + 1) _ (by omega) (by omega) ((hf.up (by decide) _ _).up (by decide) _ _) ?_ ?_ (fun j j0 j1 => ?_)
    · rw [up_ne _ _ _ _ (by decide), up_ne _ _ _ _ (by decide)]; exact h23
    · rw [up_ne _ _ _ _ (by decide), up_ne _ _ _ _ (by decide)]; exact h24
    · by_cases ej : j = i
      · rw [ej, up_at, up_ne _ _ _ _ (by decide), up_at, hf 18 (by decide), hf 19 (by decide)]
        exact ⟨rfl, rfl⟩
      · rw [up_nei _ _ _ _ ej, up_nei _ _ _ _ ej, up_nei _ _ _ _ ej, up_nei _ _ _ _ ej]
        exact hj j j0 (by omega)
theorem vM_keep {depth goal : Int} {X : St_} (r1 : zR depth) (r2 : zR goal) (hX : rgX_ X) (hp : pM_keep depth goal X) {G : Nat → Lo_ → List Vl_ → St_ → Prop} (hG : Clo_ mM_keep (qM_keep depth goal X) G) : G 0 [some (.inr 27), some (.inl depth), some (.inl goal)] [] X := by
  have hp' := hp
  obtain ⟨h1, h2⟩ := hp'
  have go : ∀ bt : Int, kp_ X depth goal → G 85 [some (.inr 27), some (.inl depth), some (.inl goal), some (.inl bt), some (.inl 0)] [] (up_ (up_ X 23 0 depth) 24 0 (X 21 depth)) := by
    intro bt hk
    refine lM_keep hp hG hk depth.toNat 0 _ (by omega) (by omega) (((fr_.refl _ X).up (by decide) _ _).up (by decide) _ _) ?_ ?_ (fun j j0 j1 => by omega)
    · rw [up_ne _ _ _ _ (by decide), up_at]
    · rw [up_at]
  refine sM_keep_0 hG ⟨fun h => Or.inr ⟨fun q => q.1 h, rfl⟩, fun hd => ⟨h1, by omega, fun hg => ⟨fun h0 => ⟨fun _ => ⟨h1, by omega, go 1 ⟨hd, hg, Or.inl h0⟩⟩, fun q => by omega⟩, fun hn0 => ⟨h1, by omega, fun hlt => ⟨fun _ => ⟨h1, by omega, go 1 ⟨hd, hg, Or.inr (Or.inl hlt)⟩⟩, fun q => by omega⟩, fun hge => ⟨h1, by omega, fun hne => ⟨fun q => absurd rfl q, fun _ => Or.inr ⟨fun q => ?_, rfl⟩⟩, fun he => ⟨fun hle => ⟨fun q => absurd rfl q, fun _ => Or.inr ⟨fun q => ?_, rfl⟩⟩, fun hlt => ⟨fun _ => ⟨h1, by omega, go 1 ⟨hd, hg, Or.inr (Or.inr ⟨he, hlt⟩)⟩⟩, fun q => by omega⟩⟩⟩⟩⟩, fun hng => Or.inr ⟨fun q => hng q.2.1, rfl⟩⟩⟩
  · rcases q.2.2 with q | q | q <;> omega
  · rcases q.2.2 with q | q | q <;> omega
theorem ckM_keep : ∀ q ∈ mM_keep.2.1, Ck_ 1 RX1 LM 0 q.1 q.2 := fun _ h => absurd h List.not_mem_nil
theorem okM_keep : Cn_ 1 LM yX1_keep cX1_keep 5 0 csM_keep := by
  refine Cn_of mM_keep KlM hfM (by decide +kernel) rfl rfl rfl hM_keep ckM_keep (Or.inl (by decide)) ?_
  intro as X hl hr hX hp G hG
  match as, hl with
  | [a, b], _ => exact vM_keep (hr _ (by simp)) (hr _ (by simp)) hX hp hG
end
section
/-! THE MODEL's findBest -/
theorem R_fb {S T Y : St_} (hS : R_ S Y) (jS : J_ S) (hT : R_ T Y) (jT : J_ T) {k t size : Int} (h0 : 0 ≤ k) (h1 : k < S 0 0) (hs : 1 ≤ size) : fb_ S k t (tk_ S k size) = fb_ T k t (tk_ T k size) := by
  unfold fb_
  congr 1
  funext b
  apply propext
  rw [okb_Y hS jS h0 h1 hs, okb_Y hT jT h0 (by rw [← hT.1.2.1, hS.1.2.1]; exact h1) hs]
theorem R_cin {S T Y : St_} (hS : R_ S Y) (jS : J_ S) (hT : R_ T Y) (jT : J_ T) {k t size : Int} (h0 : 0 ≤ k) (h1 : k < S 0 0) (hs : 1 ≤ size) : cin_ S k t size = cin_ T k t size := by
  unfold cin_
  rw [R_fb hS jS hT jT h0 h1 hs, ← R_tk hS, ← R_tk hT, ← hS.2.1.2.2.2.2.2.2, ← hT.2.1.2.2.2.2.2.2, ← hS.2.1.2.2.2.2.2.1, ← hT.2.1.2.2.2.2.2.1]
theorem R_wk {S T Y : St_} (hS : R_ S Y) (jS : J_ S) (hT : R_ T Y) (jT : J_ T) {size : Int} (hs : 1 ≤ size) : ∀ (L : List Int) (v t v' a : Int), wk_ S size v t L v' a → wk_ T size v t L v' a := by
  intro L
  induction L with
  | nil => intro v t v' a h; exact h
  | cons k ks ih =>
    rintro v t v' a ⟨h1, h2, h3, h4, h5⟩
    have ec := R_cin hS jS hT jT (t := t) h1 h2 hs
    refine ⟨h1, by rw [← hT.1.2.1, hS.1.2.1]; exact h2, by rw [← hT.2.1.1, hS.2.1.1]; exact h3, by rw [← ec]; exact h4, ?_⟩
    rw [← ec, ← hT.2.1.2.1, hS.2.1.2.1]
    exact ih _ _ _ _ h5
theorem R_bg {S T Y : St_} (hS : R_ S Y) (jS : J_ S) (hT : R_ T Y) (jT : J_ T) {size : Int} (hs : 1 ≤ size) : ∀ (L : List Int) (v t v' a : Int), wk_ S size v t L v' a → bg_ S size t L = bg_ T size t L := by
  intro L
  induction L with
  | nil => intro v t v' a _; rfl
  | cons k ks ih =>
    rintro v t v' a ⟨h1, h2, h3, h4, h5⟩
    unfold bg_
    rw [R_fb hS jS hT jT h1 h2 hs, R_cin hS jS hT jT h1 h2 hs]
    congr 1
    rw [← R_cin hS jS hT jT h1 h2 hs]
    exact ih _ _ _ _ h5
theorem R_bs {S T Y : St_} (hS : R_ S Y) (jS : J_ S) (hT : R_ T Y) (jT : J_ T) {size v t goal : Int} (hs : 1 ≤ size) {L : List Int} {a : Int} (h : bs_ S size v t goal L a) : bs_ T size v t goal L a :=
  ⟨R_wk hS jS hT jT hs _ _ _ _ _ h.1, h.2.1, h.2.2.1, fun R c r1 r2 r3 => h.2.2.2 R c r1 r2 (R_wk hT jT hS jS hs _ _ _ _ _ r3)⟩
theorem R_bf {S T Y : St_} (hS : R_ S Y) (jS : J_ S) (hT : R_ T Y) (jT : J_ T) {size v t goal : Int} (hs : 1 ≤ size) : bf_ S size v t goal = bf_ T size v t goal := by
  cases h : bf_ S size v t goal with
  | some q => exact (bf_some (R_bs hS jS hT jT hs (bf_spec h))).symm
  | none =>
    cases h2 : bf_ T size v t goal with
    | none => rfl
    | some q =>
      have := bf_some (R_bs hT jT hS jS hs (bf_spec h2))
      rw [h] at this
      cases this
theorem bg_app {N : St_} {size : Int} : ∀ (P A : List Int) (v0 t0 v t : Int), wk_ N size v0 t0 P v t → bg_ N size t0 (P ++ A) = bg_ N size t0 P ++ bg_ N size t A := by
  intro P
  induction P with
  | nil =>
    rintro A v0 t0 v t ⟨rfl, rfl⟩
    rfl
  | cons k ks ih =>
    rintro A v0 t0 v t ⟨h1, h2, h3, h4, h5⟩
    show fb_ N k t0 (tk_ N k size) :: bg_ N size (cin_ N k t0 size) (ks ++ A) = (fb_ N k t0 (tk_ N k size) :: bg_ N size (cin_ N k t0 size) ks) ++ bg_ N size t A
    rw [ih A _ _ _ _ h5]
    rfl
/-- the best one so far, as the model holds it -/
def br_ (N : St_) (size ready : Int) (B : Option (List Int × Int)) (Y : St_) : Prop := match B with
  | none => Y 23 0 = 0
  | some q => 0 < q.1.length ∧ Y 23 0 = q.1.length ∧ Y 24 0 = q.2 ∧ ∀ i : Nat, i < q.1.length → Y 25 i = q.1.getD i 0 ∧ Y 26 i = (bg_ N size ready q.1).getD i 0
noncomputable def rs_ (N : St_) (size goal : Int) (m r : Nat) (P : List Int) (v t : Int) (B : Option (List Int × Int)) : Option (List Int × Int) := match m with
  | 0 => B
  | m + 1 => vi_ N size (N 0 0) (vs_ N size goal m) goal P v t r B
theorem rs_vs (N : St_) (size goal : Int) (m : Nat) (P : List Int) (v t : Int) (B : Option (List Int × Int)) : rs_ N size goal m (N 0 0).toNat P v t B = vs_ N size goal m P v t B := by
  cases m <;> rfl
theorem br_congr {N : St_} {size ready : Int} {B : Option (List Int × Int)} {Y Z : St_} (h : br_ N size ready B Y) (h23 : Z 23 = Y 23) (h24 : Z 24 = Y 24) (h25 : Z 25 = Y 25) (h26 : Z 26 = Y 26) : br_ N size ready B Z := by
  unfold br_ at *
  cases B with
  | none => simp only at h ⊢; rw [h23]; exact h
  | some q => simp only at h ⊢; rw [h23, h24, h25, h26]; exact h
def pM_findBest (node ready goal size : Int) (X : St_) : Prop := Mp_ X ∧ ready ≤ 30000 ∧ 1 ≤ size ∧ size ≤ 30
def qM_findBest (node ready goal size : Int) (X : St_) (z : Int) (Y : St_) : Prop := fr_ [18, 19, 20, 21, 22, 23, 24, 25, 26] X Y ∧ ∀ S, R_ S X → J_ S → match bf_ S size node ready goal with
  | none => z = 0
  | some q => z = 1 ∧ Y 23 0 = q.1.length ∧ Y 24 0 = q.2 ∧ ∀ i : Nat, i < q.1.length → Y 25 i = q.1.getD i 0 ∧ Y 26 i = (bg_ S size ready q.1).getD i 0
def csM_findBest : Cs_ := (4, false, 2, (fun as X => match as with
  | [a, b, c, d] => pM_findBest a b c d X
  | _ => False), (fun as X z Y => match as with
  | [a, b, c, d] => qM_findBest a b c d X z Y
  | _ => False))
def mM_findBest : Mt_ := (LM, [(98, csM_isTried), (102, csM_earliest), (106, csM_comesIn), (109, csM_keep)], 2, EM_findBest)
set_option maxRecDepth 100000 in
theorem sM_findBest_0 {Rt : Int → St_ → Prop} {G : Nat → Lo_ → List Vl_ → St_ → Prop} (hG : Clo_ mM_findBest Rt G) {X : St_} {node ready goal size : Int} (h : 0 ≤ (0 : Int) ∧ (0 : Int) < 7 ∧ 0 ≤ (0 : Int) ∧ (0 : Int) < 7 ∧ 0 ≤ (0 : Int) ∧ (0 : Int) < 7 ∧ G 29 [some (.inr 27), some (.inl node), some (.inl ready), some (.inl goal), some (.inl size), some (.inl 0)] [] (up_ (up_ (up_ (up_ X 23 0 0) 20 0 node) 21 0 ready) 22 0 0)) : G 0 [some (.inr 27), some (.inl node), some (.inl ready), some (.inl goal), some (.inl size)] [] X := run_ hG [(29, 6)] 20 0 _ _ X h
set_option maxRecDepth 100000 in
theorem sM_findBest_29 {Rt : Int → St_ → Prop} {G : Nat → Lo_ → List Vl_ → St_ → Prop} (hG : Clo_ mM_findBest Rt G) {X : St_} {node ready goal size depth : Int} (h : (depth < 0 → (X 23 0 ≤ 0 → ((0 : Int) = 0 ∨ (0 : Int) = 1) ∧ Rt 0 X) ∧ (0 < X 23 0 → ((1 : Int) = 0 ∨ (1 : Int) = 1) ∧ Rt 1 X)) ∧ (0 ≤ depth → 0 ≤ depth ∧ depth < 7 ∧ 0 ≤ depth ∧ depth < 7 ∧ zR ((X 22 depth) + 1) ∧ 0 ≤ depth ∧ depth < 7 ∧ (depth = 5 → zR (depth + (-1)) ∧ G 29 [some (.inr 27), some (.inl node), some (.inl ready), some (.inl goal), some (.inl size), some (.inl (depth + (-1)))] [] (up_ X 22 depth ((X 22 depth) + 1))) ∧ (¬ depth = 5 → (X 22 depth < X 1 0 → 0 ≤ X 22 depth ∧ X 22 depth < 10 ∧ 0 ≤ depth ∧ depth < 7 ∧ (¬ X 2 (X 22 depth) = X 20 depth → G 29 [some (.inr 27), some (.inl node), some (.inl ready), some (.inl goal), some (.inl size), some (.inl depth)] [] (up_ X 22 depth ((X 22 depth) + 1))) ∧ (X 2 (X 22 depth) = X 20 depth → 0 ≤ X 22 depth ∧ X 22 depth < 10 ∧ (¬ X 8 (X 22 depth) = 0 → G 29 [some (.inr 27), some (.inl node), some (.inl ready), some (.inl goal), some (.inl size), some (.inl depth)] [] (up_ X 22 depth ((X 22 depth) + 1))) ∧ (X 8 (X 22 depth) = 0 → pM_isTried (X 22 depth) depth (up_ X 22 depth ((X 22 depth) + 1)) ∧ (∀ (z1 : Int) (Y1 : St_), qM_isTried (X 22 depth) depth (up_ X 22 depth ((X 22 depth) + 1)) z1 Y1 → (¬ z1 = 0 → G 29 [some (.inr 27), some (.inl node), some (.inl ready), some (.inl goal), some (.inl size), some (.inl depth)] [] Y1) ∧ (z1 = 0 → 0 ≤ depth ∧ depth < 7 ∧ pM_earliest (X 22 depth) size (Y1 21 depth) Y1 ∧ (∀ (z2 : Int) (Y2 : St_), qM_earliest (X 22 depth) size (Y1 21 depth) Y1 z2 Y2 → (z2 < 0 → G 29 [some (.inr 27), some (.inl node), some (.inl ready), some (.inl goal), some (.inl size), some (.inl depth)] [] Y2) ∧ (0 ≤ z2 → 0 ≤ depth ∧ depth < 6 ∧ 0 ≤ depth ∧ depth < 6 ∧ zR (depth + 1) ∧ 0 ≤ X 22 depth ∧ X 22 depth < 10 ∧ 0 ≤ depth + 1 ∧ depth + 1 < 7 ∧ pM_comesIn (X 22 depth) size z2 (up_ (up_ (up_ Y2 18 depth (X 22 depth)) 19 depth z2) 20 (depth + 1) (Y2 3 (X 22 depth))) ∧ (∀ (z3 : Int) (Y3 : St_), qM_comesIn (X 22 depth) size z2 (up_ (up_ (up_ Y2 18 depth (X 22 depth)) 19 depth z2) 20 (depth + 1) (Y2 3 (X 22 depth))) z3 Y3 → 0 ≤ depth + 1 ∧ depth + 1 < 7 ∧ 0 ≤ depth + 1 ∧ depth + 1 < 7 ∧ pM_keep (depth + 1) goal (up_ (up_ Y3 21 (depth + 1) z3) 22 (depth + 1) 0) ∧ (∀ (z4 : Int) (Y4 : St_), qM_keep (depth + 1) goal (up_ (up_ Y3 21 (depth + 1) z3) 22 (depth + 1) 0) z4 Y4 → G 29 [some (.inr 27), some (.inl node), some (.inl ready), some (.inl goal), some (.inl size), some (.inl (depth + 1))] [] Y4))))))))) ∧ (X 1 0 ≤ X 22 depth → zR (depth + (-1)) ∧ G 29 [some (.inr 27), some (.inl node), some (.inl ready), some (.inl goal), some (.inl size), some (.inl (depth + (-1)))] [] (up_ X 22 depth ((X 22 depth) + 1)))))) : G 29 [some (.inr 27), some (.inl node), some (.inl ready), some (.inl goal), some (.inl size), some (.inl depth)] [] X := run_ hG [(29, 6)] 90 29 _ _ X h
theorem getD_app_last (P : List Int) (k : Int) : (P ++ [k]).getD P.length 0 = k := by
  induction P with
  | nil => rfl
  | cons x P ih => exact ih
theorem getD_app_left : ∀ (P A : List Int) (i : Nat), i < P.length → (P ++ A).getD i 0 = P.getD i 0
  | [], A, i, h => by simp at h
  | x :: P, A, 0, h => rfl
  | x :: P, A, i + 1, h => getD_app_left P A i (by simpa using h)
theorem mem_getD : ∀ (P : List Int) (k : Int), k ∈ P ↔ ∃ i : Nat, i < P.length ∧ P.getD i 0 = k
  | [], k => by simp
  | x :: P, k => by
    rw [List.mem_cons, mem_getD P k]
    constructor
    · rintro (rfl | ⟨i, h1, h2⟩)
      · exact ⟨0, by simp, rfl⟩
      · exact ⟨i + 1, by simpa using h1, h2⟩
    · rintro ⟨i, h1, h2⟩
      cases i with
      | zero => exact Or.inl h2.symm
      | succ i => exact Or.inr ⟨i, by simpa using h1, h2⟩
theorem lM_findBest {node ready goal size : Int} {X N : St_} (hR : R_ N X) (hJ : J_ N) (hrd : ready ≤ 30000) (hs1 : 1 ≤ size) (hs2 : size ≤ 30) {Rt : Int → St_ → Prop} {G : Nat → Lo_ → List Vl_ → St_ → Prop} (hG : Clo_ mM_findBest Rt G) :
    ∀ (m r : Nat) (P : List Int) (v t : Int) (B : Option (List Int × Int)) (Z : St_), P.length + m = 5 → (r : Int) ≤ N 0 0 → fr_ [18, 19, 20, 21, 22, 23, 24, 25, 26] X Z → Z 20 P.length = v → Z 21 P.length = t → Z 22 P.length = N 0 0 - r →
      (∀ i : Nat, i < P.length → Z 18 i = P.getD i 0 ∧ Z 19 i = (bg_ N size ready P).getD i 0) → wk_ N size node ready P v t → P.Nodup → br_ N size ready B Z →
      (∀ Z', fr_ [18, 19, 20, 21, 22, 23, 24, 25, 26] X Z' → (∀ i : Int, 0 ≤ i → i < P.length → Z' 18 i = Z 18 i ∧ Z' 19 i = Z 19 i ∧ Z' 20 i = Z 20 i ∧ Z' 21 i = Z 21 i ∧ Z' 22 i = Z 22 i) → br_ N size ready (rs_ N size goal m r P v t B) Z' → G 29 [some (.inr 27), some (.inl node), some (.inl ready), some (.inl goal), some (.inl size), some (.inl ((P.length : Int) + (-1)))] [] Z') →
      G 29 [some (.inr 27), some (.inl node), some (.inl ready), some (.inl goal), some (.inl size), some (.inl (P.length : Int))] [] Z := by
  have hn := hJ.1.1
  have hn0 := hn.1
  have hn1 := hn.2.1
  -- a state that differs in nexts alone
  have hup : ∀ (P : List Int) (Z : St_) (w : Int), fr_ [18, 19, 20, 21, 22, 23, 24, 25, 26] X Z → fr_ [18, 19, 20, 21, 22, 23, 24, 25, 26] X (up_ Z 22 P.length w) ∧ (∀ i : Int, 0 ≤ i → i < P.length → up_ Z 22 P.length w 18 i = Z 18 i ∧ up_ Z 22 P.length w 19 i = Z 19 i ∧ up_ Z 22 P.length w 20 i = Z 20 i ∧ up_ Z 22 P.length w 21 i = Z 21 i ∧ up_ Z 22 P.length w 22 i = Z 22 i) := by
    intro P Z w hf
    refine ⟨hf.up (by decide) _ _, fun i i0 i1 => ?_⟩
    rw [up_ne _ _ _ _ (by decide), up_ne _ _ _ _ (by decide), up_ne _ _ _ _ (by decide), up_ne _ _ _ _ (by decide), up_nei _ _ _ _ (by omega)]
    exact ⟨rfl, rfl, rfl, rfl, rfl⟩
  have hbu : ∀ (P : List Int) (Z : St_) (w : Int) (B : Option (List Int × Int)), br_ N size ready B Z → br_ N size ready B (up_ Z 22 P.length w) := by
    intro P Z w B h
    exact br_congr h (by funext j; exact up_ne _ _ _ _ (by decide)) (by funext j; exact up_ne _ _ _ _ (by decide)) (by funext j; exact up_ne _ _ _ _ (by decide)) (by funext j; exact up_ne _ _ _ _ (by decide))
  intro m
  induction m with
  | zero =>
    intro r P v t B Z hPm hr hf h20 h21 h22 hpath hw hnd hbr hk
    have hP5 : (P.length : Int) = 5 := by omega
    obtain ⟨u1, u2⟩ := hup P Z (Z 22 P.length + 1) hf
    refine sM_findBest_29 hG ⟨fun h => by omega, fun _ => ⟨by omega, by omega, by omega, by omega, by omega, by omega, by omega, fun _ => ⟨by omega, ?_⟩, fun h => by omega⟩⟩
    exact hk _ u1 u2 (hbu P Z _ B hbr)
  | succ m ihm =>
    intro r
    induction r with
    | zero =>
      intro P v t B Z hPm hr hf h20 h21 h22 hpath hw hnd hbr hk
      obtain ⟨u1, u2⟩ := hup P Z (Z 22 P.length + 1) hf
      have e1 : Z 1 0 = N 0 0 := by rw [hf 1 (by decide)]; exact hR.1.2.1
      refine sM_findBest_29 hG ⟨fun h => by omega, fun _ => ⟨by omega, by omega, by omega, by omega, by omega, by omega, by omega, fun h => by omega, fun _ => ⟨fun h => by omega, fun _ => ⟨by omega, ?_⟩⟩⟩⟩
      exact hk _ u1 u2 (hbu P Z _ B hbr)
    | succ r ihr =>
      intro P v t B Z hPm hr hf h20 h21 h22 hpath hw hnd hbr hk
      push_cast at hr h22
      obtain ⟨u1, u2⟩ := hup P Z (Z 22 P.length + 1) hf
      have e1 : Z 1 0 = N 0 0 := by rw [hf 1 (by decide)]; exact hR.1.2.1
      have hk0 : 0 ≤ N 0 0 - ((r : Int) + 1) := by omega
      have hk1 : N 0 0 - ((r : Int) + 1) < N 0 0 := by omega
      generalize hkk : N 0 0 - ((r : Int) + 1) = k at h22 hk0 hk1
      have hkOK := hn.2.2 k hk0 hk1
      have hkOK' := hkOK
      obtain ⟨c1, c2, c3, c4, c5, c6, c7, c8, c9, c10, c11⟩ := hkOK'
      have e2 : Z 2 = N 2 := by rw [hf 2 (by decide)]; exact hR.2.1.1
      have e3 : Z 3 = N 3 := by rw [hf 3 (by decide)]; exact hR.2.1.2.1
      have e8 : Z 8 = N 1 := by rw [hf 8 (by decide)]; exact hR.2.1.2.2.2.2.2.2
      have ht : t < 1000000 := by
        have h109 := (wk_len hn hs1 P hw).2
        cases P with
        | nil => have := hw.2; omega
        | cons x xs => have := h109 (by simp); omega
      have hrs : ∀ b : Bool, True := fun _ => trivial
      -- the loop goes on at this depth
      have skip : ¬ (N 2 k = v ∧ N 1 k = 0 ∧ k ∉ P ∧ 0 ≤ fb_ N k t (tk_ N k size)) → G 29 [some (.inr 27), some (.inl node), some (.inl ready), some (.inl goal), some (.inl size), some (.inl (P.length : Int))] [] (up_ Z 22 P.length (Z 22 P.length + 1)) := by
        intro hno
        refine ihr P v t B _ hPm (by omega) u1 (by rw [up_ne _ _ _ _ (by decide)]; exact h20) (by rw [up_ne _ _ _ _ (by decide)]; exact h21) (by rw [up_at]; omega) (fun i hi => by rw [up_ne _ _ _ _ (by decide), up_ne _ _ _ _ (by decide)]; exact hpath i hi) hw hnd (hbu P Z _ B hbr) (fun Z' f1 f2 f3 => ?_)
        refine hk Z' f1 (fun i i0 i1 => ?_) ?_
        · obtain ⟨g1, g2, g3, g4, g5⟩ := f2 i i0 i1
          obtain ⟨g1', g2', g3', g4', g5'⟩ := u2 i i0 i1
          exact ⟨by omega, by omega, by omega, by omega, by omega⟩
        · show br_ N size ready (vi_ N size (N 0 0) (vs_ N size goal m) goal P v t (r + 1) B) Z'
          unfold vi_
          rw [hkk, if_neg hno]
          exact f3
      refine sM_findBest_29 hG ⟨fun h => by omega, fun _ => ⟨by omega, by omega, by omega, by omega, by omega, by omega, by omega, fun h => by omega, fun _ => ⟨fun _ => ?_, fun h => by omega⟩⟩⟩
      rw [h22, e2, e8]
      rw [h22] at skip u1 u2
      refine ⟨hk0, by omega, by omega, by omega, fun hne => skip (fun q => hne (by rw [h20]; exact q.1)), fun heq => ⟨hk0, by omega, fun hc => skip (fun q => hc q.2.1), fun hc => ⟨by exact ⟨by omega, by omega⟩, ?_⟩⟩⟩
      rintro z1 Y1 ⟨rfl, hz1, hi1⟩
      have htr : z1 = 1 ↔ k ∈ P := by
        rw [hi1, mem_getD]
        constructor
        · rintro ⟨i, i0, i1, i2⟩
          rw [up_ne _ _ _ _ (by decide)] at i2
          refine ⟨i.toNat, by omega, ?_⟩
          have := (hpath i.toNat (by omega)).1
          rw [show ((i.toNat : Nat) : Int) = i by omega] at this
          rw [← this]; exact i2
        · rintro ⟨i, i1, i2⟩
          refine ⟨i, by omega, by omega, ?_⟩
          rw [up_ne _ _ _ _ (by decide), (hpath i i1).1]; exact i2
      refine ⟨fun hne => skip (fun q => q.2.2.1 (htr.mp (by omega))), fun h0 => ⟨by omega, by omega, ⟨⟨N, R_fr (R_fr hR hf (by decide)) ((fr_.refl [22] Z).up (by decide) _ _) (by decide), hJ⟩, hk0, by rw [up_ne _ _ _ _ (by decide), e1]; exact hk1, hs1, hs2⟩, ?_⟩⟩
      have hnin : k ∉ P := fun q => by have := htr.mpr q; omega
      rintro z2 Y2 ⟨rfl, hz2⟩
      have hz2 := hz2 N (R_fr (R_fr hR hf (by decide)) ((fr_.refl [22] Z).up (by decide) _ _) (by decide)) hJ
      rw [up_ne _ _ _ _ (by decide), h21] at hz2
      refine ⟨fun hlt => skip (fun q => by have := q.2.2.2; omega), fun hge => ?_⟩
      have hv : N 2 k = v := by rw [heq, h20]
      have hok : N 2 k = v ∧ N 1 k = 0 ∧ k ∉ P ∧ 0 ≤ fb_ N k t (tk_ N k size) := ⟨hv, hc, hnin, by omega⟩
      have hcin : cin_ N k t size < 1000000 := (cin_lt hkOK hs1 ht).mpr ⟨hc, by omega⟩
      rcases cin_bound (t := t) hkOK hs1 with hcb | ⟨b1, b2, b3, b4, b5, b6, b7⟩
      · omega
      · have hb100 : fb_ N k t (tk_ N k size) ≤ 100 := by
          have := b3.2.2.1
          have := tk_pos (X := N) (k := k) (size := size) c8 hs1
          omega
        have eq7 : up_ (up_ (up_ (up_ Z 22 P.length (k + 1)) 18 P.length k) 19 P.length z2) 20 (P.length + 1) (up_ Z 22 P.length (k + 1) 3 k) 7 k = N 7 k := by
          rw [up_ne _ _ _ _ (by decide), up_ne _ _ _ _ (by decide), up_ne _ _ _ _ (by decide), up_ne _ _ _ _ (by decide), hf 7 (by decide), hR.2.1.2.2.2.2.2.1]
        have eq6 : up_ (up_ (up_ (up_ Z 22 P.length (k + 1)) 18 P.length k) 19 P.length z2) 20 (P.length + 1) (up_ Z 22 P.length (k + 1) 3 k) 6 k = N 6 k := by
          rw [up_ne _ _ _ _ (by decide), up_ne _ _ _ _ (by decide), up_ne _ _ _ _ (by decide), up_ne _ _ _ _ (by decide), hf 6 (by decide), hR.2.1.2.2.2.2.1]
        refine ⟨by omega, by omega, by omega, by omega, by omega, hk0, by omega, by omega, by omega, ⟨hk0, by omega, hs1, hs2, by rw [eq6]; exact c8, by rw [eq6]; exact c9, by rw [eq7]; exact c10, by rw [eq7]; exact c11, hge, by omega⟩, ?_⟩
        rintro z3 Y3 ⟨rfl, hz3⟩
        have hz3 : z3 = cin_ N k t size := by
          have etk : tk_ (up_ (up_ (up_ (up_ Z 22 P.length (k + 1)) 18 P.length k) 19 P.length z2) 20 (P.length + 1) (up_ Z 22 P.length (k + 1) 3 k)) k size = tk_ N k size := by
            unfold tk_
            rw [eq6]
          rw [hz3, etk, eq7, b4]
          omega
        subst hz3
        refine ⟨by omega, by omega, by omega, by omega, ⟨by omega, by omega⟩, ?_⟩
        have e3' : up_ Z 22 P.length (k + 1) 3 k = N 3 k := by rw [up_ne _ _ _ _ (by decide), e3]
        rw [e3']
        intro z4 Y4 hq
        have hwk : wk_ N size node ready (P ++ [k]) (N 3 k) (cin_ N k t size) := (wk_app _ _ _ _ _ _).mpr ⟨v, t, hw, hk0, hk1, hv, hcin, rfl, rfl⟩
        have hndk : (P ++ [k]).Nodup := by
          rw [List.nodup_append]
          refine ⟨hnd, by simp, ?_⟩
          intro a ha b hb
          rw [List.mem_singleton] at hb
          intro e
          exact hnin (by rw [← hb, ← e]; exact ha)
        have hlen : ((P ++ [k]).length : Int) = (P.length : Int) + 1 := by simp
        have hlenN : (P ++ [k]).length = P.length + 1 := by simp
        have hbgk : bg_ N size ready (P ++ [k]) = bg_ N size ready P ++ [fb_ N k t (tk_ N k size)] := bg_app P [k] _ _ _ _ hw
        have hbgl : (bg_ N size ready P).length = P.length := bg_length _ _ _ _
        -- the state behind the push, W
        generalize hW : up_ (up_ (up_ (up_ (up_ (up_ Z 22 P.length (k + 1)) 18 P.length k) 19 P.length z2) 20 (P.length + 1) (N 3 k)) 21 (P.length + 1) (cin_ N k t size)) 22 (P.length + 1) 0 = W at hq
        have hfW : fr_ [18, 19, 20, 21, 22, 23, 24, 25, 26] X W := by
          rw [← hW]
          exact (((((u1.up (by decide) _ _).up (by decide) _ _).up (by decide) _ _).up (by decide) _ _).up (by decide) _ _)
        have w18 : ∀ i, W 18 i = if i = P.length then k else Z 18 i := by
          intro i; rw [← hW]; simp [up_]
        have w19 : ∀ i, W 19 i = if i = P.length then z2 else Z 19 i := by
          intro i; rw [← hW]; simp [up_]
        have w20 : ∀ i, W 20 i = if i = P.length + 1 then N 3 k else Z 20 i := by
          intro i; rw [← hW]; simp [up_]
        have w21 : ∀ i, W 21 i = if i = P.length + 1 then cin_ N k t size else Z 21 i := by
          intro i; rw [← hW]; simp [up_]
        have w22 : ∀ i, W 22 i = if i = P.length + 1 then 0 else if i = P.length then k + 1 else Z 22 i := by
          intro i; rw [← hW]; simp [up_]
        have wo : ∀ f, f = 23 ∨ f = 24 ∨ f = 25 ∨ f = 26 → W f = Z f := by
          intro f hf'; rw [← hW]; funext j
          rw [up_ne _ _ _ _ (by omega), up_ne _ _ _ _ (by omega), up_ne _ _ _ _ (by omega), up_ne _ _ _ _ (by omega), up_ne _ _ _ _ (by omega), up_ne _ _ _ _ (by omega)]
        have hbrW : br_ N size ready B W := br_congr hbr (wo 23 (by simp)) (wo 24 (by simp)) (wo 25 (by simp)) (wo 26 (by simp))
        have hpathW : ∀ i : Nat, i < (P ++ [k]).length → W 18 i = (P ++ [k]).getD i 0 ∧ W 19 i = (bg_ N size ready (P ++ [k])).getD i 0 := by
          intro i hi
          rw [hlenN] at hi
          rw [w18, w19, hbgk]
          by_cases ei : i = P.length
          · subst ei
            rw [if_pos rfl, if_pos rfl, getD_app_last]
            refine ⟨rfl, ?_⟩
            rw [← hbgl, getD_app_last, hz2]
          · rw [if_neg (by omega), if_neg (by omega), getD_app_left _ _ _ (by omega), getD_app_left _ _ _ (by rw [hbgl]; omega)]
            exact hpath i (by omega)
        -- what keep leaves
        have hY4 : fr_ [23, 24, 25, 26] W Y4 ∧ br_ N size ready (kb_ goal (N 3 k) (cin_ N k t size) (P ++ [k]) B) Y4 := by
          have hkp : kp_ W (P.length + 1) goal ↔ (N 3 k = goal ∧ (W 23 0 = 0 ∨ cin_ N k t size < W 24 0 ∨ (cin_ N k t size = W 24 0 ∧ (P.length : Int) + 1 < W 23 0))) := by
            unfold kp_
            rw [w20, w21, if_pos rfl, if_pos rfl]
            constructor
            · rintro ⟨-, q⟩; exact q
            · intro q; exact ⟨by omega, q⟩
          have hnew : kp_ W (P.length + 1) goal → fr_ [23, 24, 25, 26] W Y4 → Y4 23 0 = (P.length : Int) + 1 → Y4 24 0 = W 21 (P.length + 1) → (∀ i, 0 ≤ i → i < (P.length : Int) + 1 → Y4 25 i = W 18 i ∧ Y4 26 i = W 19 i) → br_ N size ready (some (P ++ [k], cin_ N k t size)) Y4 := by
            intro _ g1 g2 g3 g4
            refine ⟨by simp, by rw [hlen]; exact g2, by rw [g3, w21, if_pos rfl], fun i hi => ?_⟩
            simp only at hi
            rw [hlenN] at hi
            obtain ⟨q1, q2⟩ := g4 i (by omega) (by omega)
            obtain ⟨p1, p2⟩ := hpathW i (by rw [hlenN]; exact hi)
            exact ⟨q1.trans p1, q2.trans p2⟩
          rcases hq with ⟨g0, g1, g2, g3, g4⟩ | ⟨g0, rfl⟩
          · refine ⟨g1, ?_⟩
            have hb := hnew g0 g1 g2 g3 g4
            rw [hkp] at g0
            have e : kb_ goal (N 3 k) (cin_ N k t size) (P ++ [k]) B = some (P ++ [k], cin_ N k t size) := by
              unfold kb_
              cases B with
              | none => exact if_pos g0.1
              | some q =>
                obtain ⟨r1, r2, r3, -⟩ := hbrW
                refine if_pos ⟨g0.1, ?_⟩
                rw [hlenN]
                rcases g0.2 with z | z | z
                · omega
                · left; omega
                · right; omega
            rw [e]
            exact hb
          · refine ⟨fr_.refl _ _, ?_⟩
            rw [hkp] at g0
            have e : kb_ goal (N 3 k) (cin_ N k t size) (P ++ [k]) B = B := by
              unfold kb_
              cases B with
              | none =>
                have hbrW : Y4 23 0 = 0 := hbrW
                exact if_neg (fun q => g0 ⟨q, Or.inl hbrW⟩)
              | some q =>
                obtain ⟨r1, r2, r3, -⟩ := hbrW
                refine if_neg (fun z => g0 ⟨z.1, Or.inr ?_⟩)
                rw [hlenN] at z
                rcases z.2 with z | z
                · left; omega
                · right; omega
            rw [e]
            exact hbrW
        obtain ⟨hf4, hbr4⟩ := hY4
        have y : ∀ f, f = 18 ∨ f = 19 ∨ f = 20 ∨ f = 21 ∨ f = 22 → Y4 f = W f := fun f hf' => hf4 f (by
          intro q
          simp only [List.mem_cons, List.not_mem_nil, or_false] at q
          omega)
        have q := ihm (N 0 0).toNat (P ++ [k]) (N 3 k) (cin_ N k t size) (kb_ goal (N 3 k) (cin_ N k t size) (P ++ [k]) B) Y4 (by rw [hlenN]; omega) (by omega) (hfW.trans (hf4.mono (by decide))) (by rw [hlen, y 20 (by simp), w20, if_pos rfl]) (by rw [hlen, y 21 (by simp), w21, if_pos rfl]) (by rw [hlen, y 22 (by simp), w22, if_pos rfl]; omega) (fun i hi => by rw [y 18 (by simp), y 19 (by simp)]; exact hpathW i hi) hwk hndk hbr4 (fun Z' f1 f2 f3 => ?_)
        · rw [hlen] at q
          exact q
        · rw [hlen, show (P.length : Int) + 1 + -1 = P.length by omega]
          rw [rs_vs] at f3
          rw [hlen] at f2
          obtain ⟨gg1, gg2, gg3, gg4, gg5⟩ := f2 P.length (by omega) (by omega)
          refine ihr P v t _ Z' hPm (by omega) f1 (by rw [gg3, y 20 (by simp), w20, if_neg (by omega)]; exact h20) (by rw [gg4, y 21 (by simp), w21, if_neg (by omega)]; exact h21) (by rw [gg5, y 22 (by simp), w22, if_neg (by omega), if_pos rfl]; omega) (fun i hi => ?_) hw hnd f3 (fun Z'' f1' f2' f3' => ?_)
          · obtain ⟨a1, a2, -⟩ := f2 i (by omega) (by omega)
            rw [a1, a2, y 18 (by simp), y 19 (by simp), w18, w19, if_neg (by omega), if_neg (by omega)]
            exact hpath i hi
          · refine hk Z'' f1' (fun i i0 i1 => ?_) ?_
            · obtain ⟨a1, a2, a3, a4, a5⟩ := f2' i i0 i1
              obtain ⟨a1', a2', a3', a4', a5'⟩ := f2 i i0 (by omega)
              rw [a1, a2, a3, a4, a5, a1', a2', a3', a4', a5', y 18 (by simp), y 19 (by simp), y 20 (by simp), y 21 (by simp), y 22 (by simp), w18, w19, w20, w21, w22, if_neg (by omega), if_neg (by omega), if_neg (by omega), if_neg (by omega), if_neg (by omega), if_neg (by omega)]
              exact ⟨rfl, rfl, rfl, rfl, rfl⟩
            · show br_ N size ready (vi_ N size (N 0 0) (vs_ N size goal m) goal P v t (r + 1) B) Z''
              unfold vi_
              rw [hkk, if_pos hok]
              exact f3'
theorem vM_findBest {node ready goal size : Int} {X : St_} (r1 : zR node) (r2 : zR ready) (r3 : zR goal) (r4 : zR size) (hX : rgX_ X) (hp : pM_findBest node ready goal size X) {G : Nat → Lo_ → List Vl_ → St_ → Prop} (hG : Clo_ mM_findBest (qM_findBest node ready goal size X) G) : G 0 [some (.inr 27), some (.inl node), some (.inl ready), some (.inl goal), some (.inl size)] [] X := by
  obtain ⟨⟨N, hR, hJ⟩, hrd, hs1, hs2⟩ := hp
  have hn0 := hJ.1.1.1
  refine sM_findBest_0 hG ⟨by omega, by omega, by omega, by omega, by omega, by omega, ?_⟩
  have hf0 : fr_ [18, 19, 20, 21, 22, 23, 24, 25, 26] X (up_ (up_ (up_ (up_ X 23 0 0) 20 0 node) 21 0 ready) 22 0 0) := ((((fr_.refl _ X).up (by decide) _ _).up (by decide) _ _).up (by decide) _ _).up (by decide) _ _
  refine lM_findBest hR hJ hrd hs1 hs2 hG 5 (N 0 0).toNat [] node ready none _ rfl (by omega) hf0 (by simp [up_]) (by simp [up_]) (by simp [up_]; omega) (fun i hi => by simp at hi) ⟨rfl, rfl⟩ List.nodup_nil (by show _ = _; simp [up_]) (fun Z' f1 f2 f3 => ?_)
  rw [rs_vs, vs_best hJ.1.1 hs1 (by omega)] at f3
  refine sM_findBest_29 hG ⟨fun _ => ?_, fun h => by simp at h⟩
  have fin : ∀ z : Int, (match bf_ N size node ready goal with
      | none => z = 0
      | some q => z = 1) → qM_findBest node ready goal size X z Z' := by
    intro z hz
    refine ⟨f1, fun S hS jS => ?_⟩
    have hb := R_bf hR hJ hS jS (v := node) (t := ready) (goal := goal) hs1
    cases hB : bf_ N size node ready goal with
    | none =>
      rw [hB] at hz hb
      rw [← hb]
      exact hz
    | some q =>
      rw [hB] at hz hb f3
      rw [← hb]
      obtain ⟨g1, g2, g3, g4⟩ := f3
      refine ⟨hz, g2, g3, ?_⟩
      rw [← R_bg hR hJ hS jS hs1 _ _ _ _ _ (bf_spec hB).1]
      exact g4
  cases hB : bf_ N size node ready goal with
  | none =>
    rw [hB] at f3 fin
    have f3 : Z' 23 0 = 0 := f3
    exact ⟨fun _ => ⟨Or.inl rfl, fin 0 rfl⟩, fun h => by omega⟩
  | some q =>
    rw [hB] at f3 fin
    obtain ⟨g1, g2, g3, g4⟩ := f3
    exact ⟨fun h => by omega, fun _ => ⟨Or.inr rfl, fin 1 rfl⟩⟩
theorem ckM_findBest : ∀ q ∈ mM_findBest.2.1, Ck_ 1 RX1 LM 3 q.1 q.2 := List.forall_mem_cons.mpr ⟨⟨yX1_isTried, cX1_isTried, 4, 0, okM_isTried, by decide, by decide, by decide +kernel, rfl, ⟨by decide, by decide⟩, lw_V q382 q384 qs25 q34 q385⟩, List.forall_mem_cons.mpr ⟨⟨yX1_earliest, cX1_earliest, 7, 2, okM_earliest, by decide, by decide, by decide +kernel, rfl, ⟨by decide, by decide⟩, lw_V q386 q388 qs26 q34 q389⟩, List.forall_mem_cons.mpr ⟨⟨yX1_comesIn, cX1_comesIn, 4, 1, okM_comesIn, by decide, by decide, by decide +kernel, rfl, ⟨by decide, by decide⟩, lw_V q366 q368 qs21 q34 q369⟩, List.forall_mem_cons.mpr ⟨⟨yX1_keep, cX1_keep, 5, 0, okM_keep, by decide, by decide, by decide +kernel, rfl, ⟨by decide, by decide⟩, lw_V q394 q396 qs28 q34 q397⟩, fun _ h => absurd h List.not_mem_nil⟩⟩⟩⟩
theorem okM_findBest : Cn_ 1 LM yX1_findBest cX1_findBest 8 3 csM_findBest := by
  refine Cn_of mM_findBest KlM hfM (by decide +kernel) rfl rfl rfl hM_findBest ckM_findBest (Or.inl (by decide)) ?_
  intro as X hl hr hX hp G hG
  match as, hl with
  | [a, b, c, d], _ => exact vM_findBest (hr _ (by simp)) (hr _ (by simp)) (hr _ (by simp)) (hr _ (by simp)) hX hp hG
end
section
/-! THE MODEL's lastNode, lastTime, plan, retry -/
theorem R_ln {S Y : St_} (hR : R_ S Y) (hg : gOK_ S) {b : Int} (h0 : 0 ≤ b) (h1 : b < S 9 0) : (if Y 15 b = 0 then Y 10 b else Y 3 (Y 16 (64 * b + Y 15 b - 1))) = ln_ S b := by
  have hB := (hg.2.2.2.2 b h0 h1).2.2.1
  unfold ln_
  rw [hR.2.2.1.2.2.2.2, hR.2.2.1.1, hR.2.1.2.1]
  by_cases e : S 16 b = 0
  · rw [if_pos e, if_pos e]
  · rw [if_neg e, if_neg e, show 64 * b + S 16 b - 1 = 64 * b + (S 16 b - 1) by omega, (hR.2.2.2.2 b (S 16 b - 1) ⟨h0, h1, by omega, by omega⟩).1, show 100 * b + S 16 b - 1 = 100 * b + (S 16 b - 1) by omega]
def pM_lastNode (b : Int) (X : St_) : Prop := Mp_ X ∧ 0 ≤ b ∧ b < X 9 0
def qM_lastNode (b : Int) (X : St_) (z : Int) (Y : St_) : Prop := Y = X ∧ ∀ S, R_ S X → J_ S → z = ln_ S b
def csM_lastNode : Cs_ := (1, false, 1, (fun as X => match as with
  | [a] => pM_lastNode a X
  | _ => False), (fun as X z Y => match as with
  | [a] => qM_lastNode a X z Y
  | _ => False))
def mM_lastNode : Mt_ := (LM, [], 1, EM_lastNode)
set_option maxRecDepth 100000 in
theorem sM_lastNode_0 {Rt : Int → St_ → Prop} {G : Nat → Lo_ → List Vl_ → St_ → Prop} (hG : Clo_ mM_lastNode Rt G) {X : St_} {b : Int} (h : 0 ≤ b ∧ b < 10 ∧ (¬ X 15 b = 0 → zR (64 * b) ∧ 0 ≤ b ∧ b < 10 ∧ zR ((64 * b) + (X 15 b)) ∧ zR (((64 * b) + (X 15 b)) - 1) ∧ 0 ≤ ((64 * b) + (X 15 b)) - 1 ∧ ((64 * b) + (X 15 b)) - 1 < 640 ∧ 0 ≤ X 16 (((64 * b) + (X 15 b)) - 1) ∧ X 16 (((64 * b) + (X 15 b)) - 1) < 10 ∧ Rt (X 3 (X 16 (((64 * b) + (X 15 b)) - 1))) X) ∧ (X 15 b = 0 → 0 ≤ b ∧ b < 10 ∧ Rt (X 10 b) X)) : G 0 [some (.inr 27), some (.inl b)] [] X := run_ hG [] 22 0 _ _ X h
theorem vM_lastNode {b : Int} {X : St_} (r1 : zR b) (hX : rgX_ X) (hp : pM_lastNode b X) {G : Nat → Lo_ → List Vl_ → St_ → Prop} (hG : Clo_ mM_lastNode (qM_lastNode b X) G) : G 0 [some (.inr 27), some (.inl b)] [] X := by
  obtain ⟨⟨S, hR, hJ⟩, h0, h1⟩ := hp
  have h1' : b < S 9 0 := by rw [← hR.1.2.2]; exact h1
  have h9 := hJ.1.2.2.1
  have hB := hJ.1.2.2.2.2 b h0 h1'
  have hB2 := hB.2.2.1
  have hn := hJ.1.1.2.1
  have e15 : X 15 b = S 16 b := by rw [hR.2.2.1.2.2.2.2]
  have fin : ∀ z, z = (if X 15 b = 0 then X 10 b else X 3 (X 16 (64 * b + X 15 b - 1))) → qM_lastNode b X z X := by
    intro z hz
    refine ⟨rfl, fun T hT jT => ?_⟩
    rw [hz]
    exact R_ln hT jT.1 h0 (by rw [← hT.1.2.2]; exact h1)
  refine sM_lastNode_0 hG ⟨h0, by omega, fun hne => ?_, fun he => ⟨h0, by omega, fin _ (by rw [if_pos he])⟩⟩
  obtain ⟨a1, a2, -⟩ := hB.2.2.2 (S 16 b - 1) (by omega) (by omega)
  have e16 := (hR.2.2.2.2 b (S 16 b - 1) ⟨h0, h1', by omega, by omega⟩).1
  rw [show 64 * b + (S 16 b - 1) = 64 * b + X 15 b - 1 by omega] at e16
  exact ⟨by omega, h0, by omega, by omega, by omega, by omega, by omega, by rw [e16]; exact a1, by rw [e16]; omega, fin _ (by rw [if_neg hne])⟩
theorem ckM_lastNode : ∀ q ∈ mM_lastNode.2.1, Ck_ 1 RX1 LM 0 q.1 q.2 := fun _ h => absurd h List.not_mem_nil
theorem okM_lastNode : Cn_ 1 LM yX1_lastNode cX1_lastNode 2 0 csM_lastNode := by
  refine Cn_of mM_lastNode KlM hfM (by decide +kernel) rfl rfl rfl hM_lastNode ckM_lastNode (Or.inl (by decide)) ?_
  intro as X hl hr hX hp G hG
  match as, hl with
  | [a], _ => exact vM_lastNode (hr _ (by simp)) hX hp hG
theorem R_lt {S Y : St_} (hR : R_ S Y) {b : Int} (h0 : 0 ≤ b) (h1 : b < S 9 0) (h2 : 0 ≤ S 16 b) : (if Y 15 b = 0 then 0 else Y 17 (64 * b + Y 15 b - 1) + tk_ Y (Y 16 (64 * b + Y 15 b - 1)) (Y 12 b) + Y 7 (Y 16 (64 * b + Y 15 b - 1))) = if S 16 b = 0 then 0 else cb_ S b (S 16 b - 1) := by
  rw [hR.2.2.1.2.2.2.2]
  by_cases e : S 16 b = 0
  · rw [if_pos e, if_pos e]
  · obtain ⟨e1, e2⟩ := hR.2.2.2.2 b (S 16 b - 1) ⟨h0, h1, by omega, by omega⟩
    rw [if_neg e, if_neg e, show 64 * b + S 16 b - 1 = 64 * b + (S 16 b - 1) by omega, e1, e2, R_tk hR, hR.2.2.1.2.2.1, hR.2.1.2.2.2.2.2.1]
    rfl
def pM_lastTime (b : Int) (X : St_) : Prop := Mp_ X ∧ 0 ≤ b ∧ b < X 9 0
def qM_lastTime (b : Int) (X : St_) (z : Int) (Y : St_) : Prop := Y = X ∧ ∀ S, R_ S X → J_ S → z = if S 16 b = 0 then 0 else cb_ S b (S 16 b - 1)
def csM_lastTime : Cs_ := (1, false, 1, (fun as X => match as with
  | [a] => pM_lastTime a X
  | _ => False), (fun as X z Y => match as with
  | [a] => qM_lastTime a X z Y
  | _ => False))
def mM_lastTime : Mt_ := (LM, [(106, csM_comesIn)], 1, EM_lastTime)
set_option maxRecDepth 100000 in
theorem sM_lastTime_0 {Rt : Int → St_ → Prop} {G : Nat → Lo_ → List Vl_ → St_ → Prop} (hG : Clo_ mM_lastTime Rt G) {X : St_} {b : Int} (h : zR (64 * b) ∧ 0 ≤ b ∧ b < 10 ∧ zR ((64 * b) + (X 15 b)) ∧ zR (((64 * b) + (X 15 b)) - 1) ∧ 0 ≤ b ∧ b < 10 ∧ (¬ X 15 b = 0 → 0 ≤ ((64 * b) + (X 15 b)) - 1 ∧ ((64 * b) + (X 15 b)) - 1 < 640 ∧ 0 ≤ b ∧ b < 10 ∧ 0 ≤ ((64 * b) + (X 15 b)) - 1 ∧ ((64 * b) + (X 15 b)) - 1 < 640 ∧ pM_comesIn (X 16 (((64 * b) + (X 15 b)) - 1)) (X 12 b) (X 17 (((64 * b) + (X 15 b)) - 1)) X ∧ (∀ (z1 : Int) (Y1 : St_), qM_comesIn (X 16 (((64 * b) + (X 15 b)) - 1)) (X 12 b) (X 17 (((64 * b) + (X 15 b)) - 1)) X z1 Y1 → Rt z1 Y1)) ∧ (X 15 b = 0 → Rt 0 X)) : G 0 [some (.inr 27), some (.inl b)] [] X := run_ hG [] 31 0 _ _ X h
theorem vM_lastTime {b : Int} {X : St_} (r1 : zR b) (hX : rgX_ X) (hp : pM_lastTime b X) {G : Nat → Lo_ → List Vl_ → St_ → Prop} (hG : Clo_ mM_lastTime (qM_lastTime b X) G) : G 0 [some (.inr 27), some (.inl b)] [] X := by
  obtain ⟨⟨S, hR, hJ⟩, h0, h1⟩ := hp
  have h1' : b < S 9 0 := by rw [← hR.1.2.2]; exact h1
  have h9 := hJ.1.2.2.1
  have hB := hJ.1.2.2.2.2 b h0 h1'
  have hB2 := hB.2.2.1
  have hn := hJ.1.1.2.1
  have e15 : X 15 b = S 16 b := by rw [hR.2.2.1.2.2.2.2]
  have fin : ∀ z, z = (if X 15 b = 0 then 0 else X 17 (64 * b + X 15 b - 1) + tk_ X (X 16 (64 * b + X 15 b - 1)) (X 12 b) + X 7 (X 16 (64 * b + X 15 b - 1))) → qM_lastTime b X z X := by
    intro z hz
    refine ⟨rfl, fun T hT jT => ?_⟩
    have h1T : b < T 9 0 := by rw [← hT.1.2.2]; exact h1
    rw [hz]
    exact R_lt hT h0 h1T (jT.1.2.2.2.2 b h0 h1T).2.2.1.1
  refine sM_lastTime_0 hG ⟨by omega, h0, by omega, by omega, by omega, h0, by omega, fun hne => ?_, fun he => fin _ (by rw [if_pos he])⟩
  have hbk : bk_ S b (S 16 b - 1) := ⟨h0, h1', by omega, by omega⟩
  obtain ⟨a1, a2, -⟩ := hB.2.2.2 (S 16 b - 1) (by omega) (by omega)
  obtain ⟨e16, e17⟩ := hR.2.2.2.2 b (S 16 b - 1) hbk
  rw [show 64 * b + (S 16 b - 1) = 64 * b + X 15 b - 1 by omega] at e16 e17
  obtain ⟨c1, c2, c3, c4, c5, c6, c7, c8⟩ := cb_bound hJ.1 hbk
  obtain ⟨d1, d2, d3, d4, d5, d6, d7, d8, d9, d10, d11⟩ := c8
  refine ⟨by omega, by omega, h0, by omega, by omega, by omega, ?_, ?_⟩
  · rw [e16, e17, hR.2.2.1.2.2.1]
    exact ⟨a1, by omega, hB.1.2.2.2.2.2.1, hB.1.2.2.2.2.2.2, by rw [hR.2.1.2.2.2.2.1]; exact d8, by rw [hR.2.1.2.2.2.2.1]; exact d9, by rw [hR.2.1.2.2.2.2.2.1]; exact d10, by rw [hR.2.1.2.2.2.2.2.1]; exact d11, c1, by omega⟩
  · rintro z1 Y1 ⟨rfl, rfl⟩
    exact fin _ (by rw [if_neg hne])
theorem ckM_lastTime : ∀ q ∈ mM_lastTime.2.1, Ck_ 1 RX1 LM 2 q.1 q.2 := List.forall_mem_cons.mpr ⟨⟨yX1_comesIn, cX1_comesIn, 4, 1, okM_comesIn, by decide, by decide, by decide +kernel, rfl, ⟨by decide, by decide⟩, lw_V q366 q368 qs21 q34 q369⟩, fun _ h => absurd h List.not_mem_nil⟩
theorem okM_lastTime : Cn_ 1 LM yX1_lastTime cX1_lastTime 3 2 csM_lastTime := by
  refine Cn_of mM_lastTime KlM hfM (by decide +kernel) rfl rfl rfl hM_lastTime ckM_lastTime (Or.inl (by decide)) ?_
  intro as X hl hr hX hp G hG
  match as, hl with
  | [a], _ => exact vM_lastTime (hr _ (by simp)) hX hp hG
theorem R_14 {S Y : St_} (h : R_ S Y) (b v : Int) : R_ (up_ S 14 b v) (up_ Y 14 b (1 - v)) := by
  have e : ∀ f, f ≠ 14 → up_ S 14 b v f = S f := fun f hf => by funext j; exact up_ne _ _ _ _ hf
  have e' : ∀ f, f ≠ 14 → up_ Y 14 b (1 - v) f = Y f := fun f hf => by funext j; exact up_ne _ _ _ _ hf
  unfold R_ bk_ at *
  rw [e 0 (by decide), e 1 (by decide), e 2 (by decide), e 3 (by decide), e 4 (by decide), e 5 (by decide), e 6 (by decide), e 7 (by decide), e 9 (by decide), e 10 (by decide), e 11 (by decide), e 12 (by decide), e 13 (by decide), e 16 (by decide), e 17 (by decide), e 18 (by decide), e 19 (by decide), e' 0 (by decide), e' 1 (by decide), e' 2 (by decide), e' 3 (by decide), e' 4 (by decide), e' 5 (by decide), e' 6 (by decide), e' 7 (by decide), e' 8 (by decide), e' 9 (by decide), e' 10 (by decide), e' 11 (by decide), e' 12 (by decide), e' 13 (by decide), e' 15 (by decide), e' 16 (by decide), e' 17 (by decide)]
  obtain ⟨h1, h2, h3, h4, h5⟩ := h
  refine ⟨h1, h2, h3, fun c c0 c1 => ?_, h5⟩
  by_cases ec : c = b
  · rw [ec, up_at, up_at]
  · rw [up_nei _ _ _ _ ec, up_nei _ _ _ _ ec]
    exact h4 c c0 c1
theorem R_ap1 {S Y : St_} (h : R_ S Y) (hb : ∀ c, 0 ≤ c → c < S 9 0 → 0 ≤ S 16 c ∧ S 16 c ≤ 60) {b k beg : Int} (h0 : 0 ≤ b) (h1 : b < S 9 0) : R_ (ap1_ S b k beg) (up_ (up_ (up_ Y 16 (64 * b + Y 15 b) k) 17 (64 * b + Y 15 b) beg) 15 b (Y 15 b + 1)) := by
  have e : ∀ f, f ≠ 8 → f ≠ 16 → f ≠ 17 → f ≠ 18 → ap1_ S b k beg f = S f := fun f a1 a2 a3 a4 => ap1_ne a1 a2 a3 a4
  have e' : ∀ f, f ≠ 15 → f ≠ 16 → f ≠ 17 → up_ (up_ (up_ Y 16 (64 * b + Y 15 b) k) 17 (64 * b + Y 15 b) beg) 15 b (Y 15 b + 1) f = Y f := fun f a1 a2 a3 => by funext j; rw [up_ne _ _ _ _ a1, up_ne _ _ _ _ a3, up_ne _ _ _ _ a2]
  have hbb := hb b h0 h1
  obtain ⟨r1, r2, r3, r4, r5⟩ := h
  have e15 : Y 15 = S 16 := r3.2.2.2.2
  refine ⟨?_, ?_, ?_, fun c c0 c1 => ?_, fun c i hci => ?_⟩
  · rw [e' 0 (by decide) (by decide) (by decide), e' 1 (by decide) (by decide) (by decide), e' 9 (by decide) (by decide) (by decide), e 19 (by decide) (by decide) (by decide) (by decide), e 0 (by decide) (by decide) (by decide) (by decide), e 9 (by decide) (by decide) (by decide) (by decide)]
    exact r1
  · rw [e' 2 (by decide) (by decide) (by decide), e' 3 (by decide) (by decide) (by decide), e' 4 (by decide) (by decide) (by decide), e' 5 (by decide) (by decide) (by decide), e' 6 (by decide) (by decide) (by decide), e' 7 (by decide) (by decide) (by decide), e' 8 (by decide) (by decide) (by decide), e 1 (by decide) (by decide) (by decide) (by decide), e 2 (by decide) (by decide) (by decide) (by decide), e 3 (by decide) (by decide) (by decide) (by decide), e 4 (by decide) (by decide) (by decide) (by decide), e 5 (by decide) (by decide) (by decide) (by decide), e 6 (by decide) (by decide) (by decide) (by decide), e 7 (by decide) (by decide) (by decide) (by decide)]
    exact r2
  · rw [e' 10 (by decide) (by decide) (by decide), e' 11 (by decide) (by decide) (by decide), e' 12 (by decide) (by decide) (by decide), e' 13 (by decide) (by decide) (by decide), e 10 (by decide) (by decide) (by decide) (by decide), e 11 (by decide) (by decide) (by decide) (by decide), e 12 (by decide) (by decide) (by decide) (by decide), e 13 (by decide) (by decide) (by decide) (by decide)]
    refine ⟨r3.1, r3.2.1, r3.2.2.1, r3.2.2.2.1, ?_⟩
    funext c
    rw [ap1_16, e15]
    by_cases ec : c = b
    · rw [ec, up_at, if_pos rfl]
    · rw [up_nei _ _ _ _ ec, if_neg ec, up_ne _ _ _ _ (by decide), up_ne _ _ _ _ (by decide), e15]
  · rw [e 9 (by decide) (by decide) (by decide) (by decide)] at c1
    rw [e' 14 (by decide) (by decide) (by decide), e 14 (by decide) (by decide) (by decide) (by decide)]
    exact r4 c c0 c1
  · rw [ap1_17, ap1_18, e15, up_ne _ _ _ _ (show (16 : Nat) ≠ 15 by decide), up_ne _ _ _ _ (show (16 : Nat) ≠ 17 by decide), up_ne _ _ _ _ (show (17 : Nat) ≠ 15 by decide)]
    rcases (ap1_bk h0 h1 hbb.1).mp hci with hc | ⟨rfl, rfl⟩
    · have hcc := hb c hc.1 hc.2.1
      obtain ⟨q1, q2, q3, q4⟩ := hc
      have hne : ¬ (100 * c + i = 100 * b + S 16 b) := by
        intro q
        have : c = b := by omega
        subst this
        omega
      have hne' : 64 * c + i ≠ 64 * b + S 16 b := by
        intro q
        have : c = b := by omega
        subst this
        omega
      rw [if_neg hne, if_neg hne, up_nei _ _ _ _ hne', up_nei _ _ _ _ hne', up_ne _ _ _ _ (by decide)]
      exact r5 c i ⟨q1, q2, q3, q4⟩
    · rw [if_pos rfl, if_pos rfl, up_at, up_at]
      exact ⟨rfl, rfl⟩
def pM_plan (b : Int) (X : St_) : Prop := ∃ S, R_ S X ∧ J_ S ∧ 0 ≤ b ∧ b < S 9 0 ∧ pn_ S b
def qM_plan (b : Int) (X : St_) (_ : Int) (Y : St_) : Prop := ∀ S, R_ S X → J_ S → R_ (pl_ S b) Y
def csM_plan : Cs_ := (1, false, 0, (fun as X => match as with
  | [a] => pM_plan a X
  | _ => False), (fun as X z Y => match as with
  | [a] => qM_plan a X z Y
  | _ => False))
def mM_plan : Mt_ := (LM, [(113, csM_lastTime), (120, csM_lastNode), (123, csM_findBest)], 0, EM_plan)
set_option maxRecDepth 100000 in
theorem sM_plan_0 {Rt : Int → St_ → Prop} {G : Nat → Lo_ → List Vl_ → St_ → Prop} (hG : Clo_ mM_plan Rt G) {X : St_} {b : Int} (h : pM_lastTime b X ∧ (∀ (z1 : Int) (Y1 : St_), qM_lastTime b X z1 Y1 → (z1 ≤ Y1 0 0 → G 25 [some (.inr 27), some (.inl b), some (.inl (Y1 0 0))] [] Y1) ∧ (Y1 0 0 < z1 → pM_lastTime b Y1 ∧ (∀ (z2 : Int) (Y2 : St_), qM_lastTime b Y1 z2 Y2 → G 25 [some (.inr 27), some (.inl b), some (.inl z2)] [] Y2)))) : G 0 [some (.inr 27), some (.inl b)] [] X := run_ hG [(25, 3), (86, 4)] 11 0 _ _ X h
set_option maxRecDepth 100000 in
theorem sM_plan_25 {Rt : Int → St_ → Prop} {G : Nat → Lo_ → List Vl_ → St_ → Prop} (hG : Clo_ mM_plan Rt G) {X : St_} {b ready : Int} (h : pM_lastNode b X ∧ (∀ (z1 : Int) (Y1 : St_), qM_lastNode b X z1 Y1 → 0 ≤ b ∧ b < 10 ∧ 0 ≤ b ∧ b < 10 ∧ pM_findBest z1 ready (Y1 11 b) (Y1 12 b) Y1 ∧ (∀ (z2 : Int) (Y2 : St_), qM_findBest z1 ready (Y1 11 b) (Y1 12 b) Y1 z2 Y2 → (z2 = 0 → 0 ≤ b ∧ b < 10 ∧ ((1 : Int) = 0 ∨ (1 : Int) = 1) ∧ 0 ≤ b ∧ b < 10 ∧ ((up_ Y2 14 b 1) 14 b = 0 → G 86 [some (.inr 27), some (.inl b), some (.inl ready), some (.inl 0)] [] (up_ Y2 14 b 1)) ∧ (¬ (up_ Y2 14 b 1) 14 b = 0 → Rt 0 (up_ Y2 14 b 1))) ∧ (¬ z2 = 0 → 0 ≤ b ∧ b < 10 ∧ (Y2 24 0 ≤ Y2 13 b → 0 ≤ b ∧ b < 10 ∧ ((0 : Int) = 0 ∨ (0 : Int) = 1) ∧ 0 ≤ b ∧ b < 10 ∧ ((up_ Y2 14 b 0) 14 b = 0 → G 86 [some (.inr 27), some (.inl b), some (.inl ready), some (.inl 0)] [] (up_ Y2 14 b 0)) ∧ (¬ (up_ Y2 14 b 0) 14 b = 0 → Rt 0 (up_ Y2 14 b 0))) ∧ (Y2 13 b < Y2 24 0 → 0 ≤ b ∧ b < 10 ∧ ((1 : Int) = 0 ∨ (1 : Int) = 1) ∧ 0 ≤ b ∧ b < 10 ∧ ((up_ Y2 14 b 1) 14 b = 0 → G 86 [some (.inr 27), some (.inl b), some (.inl ready), some (.inl 0)] [] (up_ Y2 14 b 1)) ∧ (¬ (up_ Y2 14 b 1) 14 b = 0 → Rt 0 (up_ Y2 14 b 1))))))) : G 25 [some (.inr 27), some (.inl b), some (.inl ready)] [] X := run_ hG [(25, 3), (86, 4)] 35 25 _ _ X h
set_option maxRecDepth 100000 in
theorem sM_plan_86 {Rt : Int → St_ → Prop} {G : Nat → Lo_ → List Vl_ → St_ → Prop} (hG : Clo_ mM_plan Rt G) {X : St_} {b ready i : Int} (h : (X 23 0 ≤ i → Rt 0 X) ∧ (i < X 23 0 → zR (64 * b) ∧ 0 ≤ b ∧ b < 10 ∧ zR ((64 * b) + (X 15 b)) ∧ 0 ≤ i ∧ i < 5 ∧ 0 ≤ (64 * b) + (X 15 b) ∧ (64 * b) + (X 15 b) < 640 ∧ zR (64 * b) ∧ 0 ≤ b ∧ b < 10 ∧ zR ((64 * b) + (X 15 b)) ∧ 0 ≤ i ∧ i < 5 ∧ 0 ≤ (64 * b) + (X 15 b) ∧ (64 * b) + (X 15 b) < 640 ∧ 0 ≤ b ∧ b < 10 ∧ zR ((X 15 b) + 1) ∧ 0 ≤ b ∧ b < 10 ∧ zR (i + 1) ∧ G 86 [some (.inr 27), some (.inl b), some (.inl ready), some (.inl (i + 1))] [] (up_ (up_ (up_ X 16 ((64 * b) + (X 15 b)) (X 25 i)) 17 ((64 * b) + (X 15 b)) (X 26 i)) 15 b ((X 15 b) + 1)))) : G 86 [some (.inr 27), some (.inl b), some (.inl ready), some (.inl i)] [] X := run_ hG [(25, 3), (86, 4)] 44 86 _ _ X h
theorem lM_plan86 {b : Int} {X : St_} (hb0 : 0 ≤ b) (hb1 : b < 10) {G : Nat → Lo_ → List Vl_ → St_ → Prop} (hG : Clo_ mM_plan (qM_plan b X) G) {ready : Int} :
    ∀ (r : List (Int × Int)) (i : Nat) (Z : St_), Z 23 0 = i + r.length → i + r.length ≤ 5 → (∀ j : Nat, j < r.length → Z 25 (i + j) = (r.getD j (0, 0)).1 ∧ Z 26 (i + j) = (r.getD j (0, 0)).2) → 0 ≤ Z 15 b → Z 15 b + r.length ≤ 60 →
      (∀ S, R_ S X → J_ S → ∃ T, R_ T Z ∧ ap_ b r T = pl_ S b ∧ (∀ c, 0 ≤ c → c < T 9 0 → 0 ≤ T 16 c ∧ T 16 c ≤ 60) ∧ b < T 9 0) → G 86 [some (.inr 27), some (.inl b), some (.inl ready), some (.inl (i : Int))] [] Z := by
  intro r
  induction r with
  | nil =>
    intro i Z h23 h5 hij h15 h15' hS
    refine sM_plan_86 hG ⟨fun _ S hR hJ => ?_, fun h => by rw [h23] at h; simp at h⟩
    obtain ⟨T, t1, t2, -⟩ := hS S hR hJ
    rw [← t2]
    exact t1
  | cons q r ih =>
    intro i Z h23 h5 hij h15 h15' hS
    rw [List.length_cons] at h23 h5 h15'
    push_cast at h23 h15'
    have hq := hij 0 (by simp)
    simp only [Int.natCast_zero, Int.add_zero, List.getD_cons_zero] at hq
    refine sM_plan_86 hG ⟨fun h => by omega, fun h => ⟨by omega, hb0, hb1, by omega, by omega, by omega, by omega, by omega, by omega, hb0, hb1, by omega, by omega, by omega, by omega, by omega, hb0, hb1, by omega, hb0, hb1, by omega, ?_⟩⟩
    rw [hq.1, hq.2]
    have g := ih (i + 1) (up_ (up_ (up_ Z 16 (64 * b + Z 15 b) q.1) 17 (64 * b + Z 15 b) q.2) 15 b (Z 15 b + 1)) (by rw [up_ne _ _ _ _ (by decide), up_ne _ _ _ _ (by decide), up_ne _ _ _ _ (by decide), h23]; push_cast; omega) (by omega) (fun j hj => ?_) (by rw [up_at]; omega) (by rw [up_at]; omega) (fun S hR hJ => ?_)
    · push_cast at g
      exact g
    · rw [up_ne _ _ _ _ (by decide), up_ne _ _ _ _ (by decide), up_ne _ _ _ _ (by decide), up_ne _ _ _ _ (by decide), up_ne _ _ _ _ (by decide), up_ne _ _ _ _ (by decide)]
      have hh := hij (j + 1) (by simp; omega)
      rw [List.getD_cons_succ] at hh
      push_cast at hh ⊢
      rw [show (i : Int) + 1 + j = i + (j + 1) by omega]
      exact hh
    · obtain ⟨T, t1, t2, t3, t4⟩ := hS S hR hJ
      have e15 : Z 15 b = T 16 b := by rw [t1.2.2.1.2.2.2.2]
      have e9 : ap1_ T b q.1 q.2 9 0 = T 9 0 := by rw [ap1_ne (by decide) (by decide) (by decide) (by decide)]
      refine ⟨ap1_ T b q.1 q.2, R_ap1 t1 t3 hb0 t4, t2, fun c c0 c1 => ?_, by rw [e9]; exact t4⟩
      rw [e9] at c1
      rw [ap1_16]
      have := t3 c c0 c1
      by_cases ec : c = b
      · rw [if_pos ec]; omega
      · rw [if_neg ec]; exact this
theorem vM_plan {b : Int} {X : St_} (r1 : zR b) (hX : rgX_ X) (hp : pM_plan b X) {G : Nat → Lo_ → List Vl_ → St_ → Prop} (hG : Clo_ mM_plan (qM_plan b X) G) : G 0 [some (.inr 27), some (.inl b)] [] X := by
  obtain ⟨S, hR, hJ, h0, h1, hpn⟩ := hp
  have hg := hJ.1
  have h9 := hg.2.2.1
  have h1X : b < X 9 0 := by rw [hR.1.2.2]; exact h1
  have hB := hg.2.2.2.2 b h0 h1
  have hB2 := hB.2.2.1
  have hs1 := hB.1.2.2.2.2.2.1
  have hs2 := hB.1.2.2.2.2.2.2
  have hrd := rd_bound hg h0 h1
  have hcc := cc_bound hg
  have h19 := hg.2.2.2.1
  have hMp : Mp_ X := ⟨S, hR, hJ⟩
  -- what the S's have in common
  have hcom : ∀ T, R_ T X → J_ T → b < T 9 0 ∧ T 12 b = S 12 b ∧ T 11 b = S 11 b ∧ T 13 b = S 13 b ∧ ln_ T b = ln_ S b ∧ rd_ T b = rd_ S b ∧ T 16 b = S 16 b := by
    intro T hT jT
    have hT1 : b < T 9 0 := by rw [← hT.1.2.2]; exact h1X
    have e16 : T 16 b = S 16 b := by rw [← hT.2.2.1.2.2.2.2, hR.2.2.1.2.2.2.2]
    have e19 : T 19 0 = S 19 0 := by rw [← hT.1.1, hR.1.1]
    refine ⟨hT1, by rw [← hT.2.2.1.2.2.1, hR.2.2.1.2.2.1], by rw [← hT.2.2.1.2.1, hR.2.2.1.2.1], by rw [← hT.2.2.1.2.2.2.1, hR.2.2.1.2.2.2.1], by rw [← R_ln hT jT.1 h0 hT1, R_ln hR hg h0 h1], ?_, e16⟩
    have hlt := (R_lt hT h0 hT1 (jT.1.2.2.2.2 b h0 hT1).2.2.1.1).symm.trans (R_lt hR h0 h1 hB2.1)
    unfold rd_
    rw [e19]
    rw [e16] at hlt ⊢
    by_cases e : S 16 b = 0
    · rw [if_neg (by omega), if_neg (by omega)]
    · rw [if_neg e, if_neg e] at hlt
      rw [hlt]
  have main : G 25 [some (.inr 27), some (.inl b), some (.inl (rd_ S b))] [] X := by
    refine sM_plan_25 hG ⟨⟨hMp, h0, h1X⟩, ?_⟩
    rintro z1 Y1 ⟨rfl, hz1⟩
    have hz1 := hz1 S hR hJ
    subst hz1
    have e11 : Y1 11 b = S 11 b := by rw [hR.2.2.1.2.1]
    have e12 : Y1 12 b = S 12 b := by rw [hR.2.2.1.2.2.1]
    rw [e11, e12]
    refine ⟨h0, by omega, h0, by omega, ⟨hMp, by omega, hs1, hs2⟩, ?_⟩
    rintro z2 Y2 ⟨hf, hbest⟩
    have e13 : Y2 13 b = S 13 b := by rw [hf 13 (by decide), hR.2.2.1.2.2.2.1]
    have hR2 : ∀ T, R_ T Y1 → R_ T Y2 := fun T hT => R_fr hT hf (by decide)
    -- the plan of every S, out of the one answer
    have hpl : ∀ T, R_ T Y1 → J_ T → pl_ T b = match bf_ S (S 12 b) (ln_ S b) (rd_ S b) (S 11 b) with
        | some (L, a) => if a ≤ S 13 b then ap_ b (L.zip (bg_ S (S 12 b) (rd_ S b) L)) (up_ T 14 b 1) else up_ T 14 b 0
        | none => up_ T 14 b 0 := by
      intro T hT jT
      obtain ⟨c1, c2, c3, c4, c5, c6, c7⟩ := hcom T hT jT
      unfold pl_
      rw [c2, c3, c4, c5, c6, ← R_bf hR hJ hT jT hs1]
      cases hB : bf_ S (S 12 b) (ln_ S b) (rd_ S b) (S 11 b) with
      | none => rfl
      | some q =>
        simp only
        rw [← R_bg hR hJ hT jT hs1 _ _ _ _ _ (bf_spec hB).1]
    have hstuck : (∀ T, R_ T Y1 → J_ T → pl_ T b = up_ T 14 b 0) → qM_plan b Y1 0 (up_ Y2 14 b 1) := by
      intro hall T hT jT
      rw [hall T hT jT]
      exact R_14 (hR2 T hT) b 0
    have hb2 := hbest S hR hJ
    cases hB : bf_ S (S 12 b) (ln_ S b) (rd_ S b) (S 11 b) with
    | none =>
      rw [hB] at hb2 hpl
      have hb2 : z2 = 0 := hb2
      rw [up_at]
      exact ⟨fun _ => ⟨h0, by omega, Or.inr rfl, h0, by omega, fun q => by omega, fun _ => hstuck hpl⟩, fun h => absurd hb2 h⟩
    | some q =>
      obtain ⟨L, a⟩ := q
      rw [hB] at hb2 hpl
      obtain ⟨g1, g2, g3, g4⟩ := hb2
      simp only at g2 g3 g4 hpl
      rw [up_at, up_at, e13, g3]
      have hbs := bf_spec hB
      have hl5 := hbs.2.2.1
      refine ⟨fun h => by omega, fun _ => ⟨h0, by omega, fun hle => ⟨h0, by omega, Or.inl rfl, h0, by omega, fun _ => ?_, fun q => absurd rfl q⟩, fun hgt => ⟨h0, by omega, Or.inr rfl, h0, by omega, fun q => by omega, fun _ => hstuck (fun T hT jT => by rw [hpl T hT jT, if_neg (by omega)])⟩⟩⟩
      have hlen : (L.zip (bg_ S (S 12 b) (rd_ S b) L)).length = L.length := by rw [List.length_zip, bg_length, Nat.min_self]
      have e15 : up_ Y2 14 b 0 15 b = S 16 b := by rw [up_ne _ _ _ _ (by decide), hf 15 (by decide), hR.2.2.1.2.2.2.2]
      have hp2 := hpn.2
      have q := lM_plan86 (ready := rd_ S b) h0 (by omega) hG (L.zip (bg_ S (S 12 b) (rd_ S b) L)) 0 (up_ Y2 14 b 0) (by rw [up_ne _ _ _ _ (by decide), g2, hlen]; simp) (by rw [hlen]; omega) (fun j hj => ?_) (by rw [e15]; omega) (by rw [e15, hlen]; omega) (fun T hT jT => ?_)
      · exact q
      · rw [hlen] at hj
        obtain ⟨i1, i2⟩ := g4 j hj
        rw [up_ne _ _ _ _ (by decide), up_ne _ _ _ _ (by decide)]
        simp only [Int.natCast_zero, Int.zero_add]
        rw [i1, i2, zip_getD _ _ _ hj (by rw [bg_length]; exact hj)]
        exact ⟨rfl, rfl⟩
      · obtain ⟨c1, -⟩ := hcom T hT jT
        refine ⟨up_ T 14 b 1, R_14 (hR2 T hT) b 1, ?_, fun c c0 c2 => ?_, by rw [up_ne _ _ _ _ (by decide)]; exact c1⟩
        · rw [hpl T hT jT, if_pos hle]
        · rw [up_ne _ _ _ _ (by decide)] at c2 ⊢
          exact (jT.1.2.2.2.2 c c0 c2).2.2.1
  refine sM_plan_0 hG ⟨⟨hMp, h0, h1X⟩, ?_⟩
  rintro z1 Y1 ⟨rfl, hz1⟩
  have hw1 := hz1 S hR hJ
  clear hz1
  have e0 : Y1 0 0 = S 19 0 := hR.1.1
  refine ⟨fun hle => ?_, fun hgt => ⟨⟨hMp, h0, h1X⟩, ?_⟩⟩
  · have e : rd_ S b = Y1 0 0 := by
      unfold rd_
      rw [e0]
      by_cases e : S 16 b = 0
      · rw [if_neg (by omega)]
      · rw [if_neg e] at hw1
        rw [if_neg (by omega)]
    rw [e] at main
    exact main
  · rintro z2 Y2 ⟨rfl, hz2⟩
    have hw2 := hz2 S hR hJ
    clear hz2
    have e : rd_ S b = z2 := by
      unfold rd_
      by_cases e : S 16 b = 0
      · rw [if_pos e] at hw1
        omega
      · rw [if_neg e] at hw1 hw2
        rw [if_pos (by omega)]
        omega
    rw [e] at main
    exact main
theorem ckM_plan : ∀ q ∈ mM_plan.2.1, Ck_ 1 RX1 LM 4 q.1 q.2 := List.forall_mem_cons.mpr ⟨⟨yX1_lastTime, cX1_lastTime, 3, 2, okM_lastTime, by decide, by decide, by decide +kernel, rfl, ⟨by decide, by decide⟩, lw_V q362 q364 qs20 q34 q365⟩, List.forall_mem_cons.mpr ⟨⟨yX1_lastNode, cX1_lastNode, 2, 0, okM_lastNode, by decide, by decide, by decide +kernel, rfl, ⟨by decide, by decide⟩, lw_V q374 q376 qs23 q34 q377⟩, List.forall_mem_cons.mpr ⟨⟨yX1_findBest, cX1_findBest, 8, 3, okM_findBest, by decide, by decide, by decide +kernel, rfl, ⟨by decide, by decide⟩, lw_V q378 q380 qs24 q34 q381⟩, fun _ h => absurd h List.not_mem_nil⟩⟩⟩
theorem okM_plan : Cn_ 1 LM yX1_plan cX1_plan 4 4 csM_plan := by
  refine Cn_of mM_plan KlM hfM (by decide +kernel) rfl rfl rfl hM_plan ckM_plan (Or.inl (by decide)) ?_
  intro as X hl hr hX hp G hG
  match as, hl with
  | [a], _ => exact vM_plan (hr _ (by simp)) hX hp hG
def pM_retry (X : St_) : Prop := ∃ S, R_ S X ∧ IV_ S (fun _ => False)
def qM_retry (X : St_) (_ : Int) (Y : St_) : Prop := ∀ S, R_ S X → IV_ S (fun _ => False) → R_ (ry_ S (S 9 0).toNat) Y
def csM_retry : Cs_ := (0, false, 0, (fun as X => match as with
  | [] => pM_retry  X
  | _ => False), (fun as X z Y => match as with
  | [] => qM_retry  X z Y
  | _ => False))
def mM_retry : Mt_ := (LM, [(127, csM_plan)], 0, EM_retry)
set_option maxRecDepth 100000 in
theorem sM_retry_0 {Rt : Int → St_ → Prop} {G : Nat → Lo_ → List Vl_ → St_ → Prop} (hG : Clo_ mM_retry Rt G) {X : St_} (h : G 2 [some (.inr 27), some (.inl 0)] [] X) : G 0 [some (.inr 27)] [] X := run_ hG [(2, 2)] 2 0 _ _ X h
set_option maxRecDepth 100000 in
theorem sM_retry_2 {Rt : Int → St_ → Prop} {G : Nat → Lo_ → List Vl_ → St_ → Prop} (hG : Clo_ mM_retry Rt G) {X : St_} {b : Int} (h : (X 9 0 ≤ b → Rt 0 X) ∧ (b < X 9 0 → 0 ≤ b ∧ b < 10 ∧ (X 14 b = 0 → zR (b + 1) ∧ G 2 [some (.inr 27), some (.inl (b + 1))] [] X) ∧ (¬ X 14 b = 0 → pM_plan b X ∧ (∀ (z1 : Int) (Y1 : St_), qM_plan b X z1 Y1 → zR (b + 1) ∧ G 2 [some (.inr 27), some (.inl (b + 1))] [] Y1)))) : G 2 [some (.inr 27), some (.inl b)] [] X := run_ hG [(2, 2)] 14 2 _ _ X h
theorem lM_retry {X : St_} (hp : pM_retry X) {G : Nat → Lo_ → List Vl_ → St_ → Prop} (hG : Clo_ mM_retry (qM_retry X) G) :
    ∀ (d m : Nat) (Z : St_), (X 9 0).toNat = m + d → (∀ S, R_ S X → IV_ S (fun _ => False) → R_ (ry_ S m) Z) → G 2 [some (.inr 27), some (.inl (m : Int))] [] Z := by
  obtain ⟨S0, hR0, hI0⟩ := hp
  have h9 := hI0.1.1.2.2.1
  rw [← hR0.1.2.2] at h9
  intro d
  induction d with
  | zero =>
    intro m Z hm hall
    have z9 : Z 9 0 = X 9 0 := by
      have := (hall S0 hR0 hI0).1.2.2
      rw [this, (ry_IV hI0 m (by rw [← hR0.1.2.2]; omega)).2 9 (by decide) (by decide) (by decide) (by decide) (by decide), hR0.1.2.2]
    refine sM_retry_2 hG ⟨fun _ S hR hI => ?_, fun h => by omega⟩
    rw [← hR.1.2.2, hm, Nat.add_zero]
    exact hall S hR hI
  | succ d ih =>
    intro m Z hm hall
    obtain ⟨i1, i2⟩ := ry_IV hI0 m (by rw [← hR0.1.2.2]; omega)
    have i9 := i2 9 (by decide) (by decide) (by decide) (by decide) (by decide)
    have hRm := hall S0 hR0 hI0
    have z9 : Z 9 0 = X 9 0 := by rw [hRm.1.2.2, i9, hR0.1.2.2]
    have hm9 : (m : Int) < ry_ S0 m 9 0 := by rw [i9, ← hR0.1.2.2]; omega
    -- routed or not is the same for all S
    have h14 : ∀ S, R_ S X → IV_ S (fun _ => False) → (Z 14 m = 0 ↔ ¬ ry_ S m 14 m = 0) ∧ (ry_ S m 14 m = 0 → pn_ (ry_ S m) m) ∧ (m : Int) < ry_ S m 9 0 ∧ J_ (ry_ S m) := by
      intro S hR hI
      obtain ⟨j1, j2⟩ := ry_IV hI m (by rw [← hR.1.2.2]; omega)
      have j9 := j2 9 (by decide) (by decide) (by decide) (by decide) (by decide)
      have hlt : (m : Int) < ry_ S m 9 0 := by rw [j9, ← hR.1.2.2]; omega
      have hz := (hall S hR hI).2.2.2.1 m (by omega) hlt
      rcases j1.2 m (by omega) hlt with ⟨q, -⟩ | ⟨-, q⟩
      · exact q.elim
      · refine ⟨?_, fun h0 => ?_, hlt, j1.1⟩
        · rcases q with q | q
          · have := q.1; omega
          · have := q.1; omega
        · rcases q with q | q
          · have := q.1; omega
          · exact q.2
    have hm0 := h14 S0 hR0 hI0
    refine sM_retry_2 hG ⟨fun h => by omega, fun h => ⟨by omega, by omega, fun he => ⟨by omega, ?_⟩, fun hne => ⟨?_, ?_⟩⟩⟩
    · have q := ih (m + 1) Z (by omega) (fun S hR hI => ?_)
      · push_cast at q; exact q
      · show R_ (if ry_ S m 14 m = 0 then pl_ (ry_ S m) m else ry_ S m) Z
        rw [if_neg ((h14 S hR hI).1.mp he)]
        exact hall S hR hI
    · have hr0 : ry_ S0 m 14 m = 0 := Classical.byContradiction fun q => hne (hm0.1.mpr q)
      exact ⟨ry_ S0 m, hRm, i1.1, by omega, hm9, hm0.2.1 hr0⟩
    · intro z1 Y1 hq
      refine ⟨by omega, ?_⟩
      have q := ih (m + 1) Y1 (by omega) (fun S hR hI => ?_)
      · push_cast at q; exact q
      · have hr0 : ry_ S m 14 m = 0 := Classical.byContradiction fun q => hne ((h14 S hR hI).1.mpr q)
        show R_ (if ry_ S m 14 m = 0 then pl_ (ry_ S m) m else ry_ S m) Y1
        rw [if_pos hr0]
        exact hq _ (hall S hR hI) (h14 S hR hI).2.2.2
theorem vM_retry {X : St_}  (hX : rgX_ X) (hp : pM_retry  X) {G : Nat → Lo_ → List Vl_ → St_ → Prop} (hG : Clo_ mM_retry (qM_retry  X) G) : G 0 [some (.inr 27)] [] X := by
  exact sM_retry_0 hG (lM_retry hp hG (X 9 0).toNat 0 X (by omega) (fun S hR _ => hR))
theorem ckM_retry : ∀ q ∈ mM_retry.2.1, Ck_ 1 RX1 LM 5 q.1 q.2 := List.forall_mem_cons.mpr ⟨⟨yX1_plan, cX1_plan, 4, 4, okM_plan, by decide, by decide, by decide +kernel, rfl, ⟨by decide, by decide⟩, lw_V q358 q360 qs19 q34 q361⟩, fun _ h => absurd h List.not_mem_nil⟩
theorem okM_retry : Cn_ 1 LM yX1_retry cX1_retry 2 5 csM_retry := by
  refine Cn_of mM_retry KlM hfM (by decide +kernel) rfl rfl rfl hM_retry ckM_retry (Or.inl (by decide)) ?_
  intro as X hl hr hX hp G hG
  match as, hl with
  | [], _ => exact vM_retry  hX hp hG
end
section
/-! THE MODEL's OPERATIONS: contact, hitAt, cancel, send, pass, time (the first rows, on bits, are the kit's BITS.to-paste) -/
def bt (x : Int32) (i : Nat) : Bool := x.toBitVec.getLsbD i
theorem b_ext {x y : Int32} (h : ∀ i, i < 32 → bt x i = bt y i) : x = y := Int32.toBitVec_inj.mp (BitVec.eq_of_getLsbD_eq (fun i hi => h i hi))
theorem b_or (x y : Int32) (i : Nat) : bt (x ||| y) i = (bt x i || bt y i) := by unfold bt; rw [Int32.toBitVec_or, BitVec.getLsbD_or]
theorem b_and (x y : Int32) (i : Nat) : bt (x &&& y) i = (bt x i && bt y i) := by unfold bt; rw [Int32.toBitVec_and, BitVec.getLsbD_and]
theorem b_big {x : Int32} {i : Nat} (h : 32 ≤ i) : bt x i = false := BitVec.getLsbD_of_ge _ _ h
theorem b_0 (i : Nat) : bt 0 i = false := BitVec.getLsbD_zero
theorem s_l : ∀ n, n < 32 → ((nI n &&& 31).toBitVec.smod 32).toNat = n := by decide +kernel
theorem b_shl (n : Nat) (hn : n < 32) (x : Int32) {i : Nat} (hi : i < 32) : bt (x <<< (nI n &&& 31)) i = (decide (n ≤ i) && bt x (i - n)) := by
  unfold bt
  rw [Int32.toBitVec_shiftLeft]
  show (x.toBitVec <<< ((nI n &&& 31).toBitVec.smod 32).toNat).getLsbD i = _
  rw [s_l n hn, BitVec.getLsbD_shiftLeft]
  rcases Nat.lt_or_ge i n with h | h
  · simp [h, Nat.not_le.mpr h]
  · simp [hi, h, Nat.not_lt.mpr h]
theorem b_sshr (n : Nat) (hn : n < 32) (x : Int32) {i : Nat} (hi : i < 32) : bt (x >>> (nI n &&& 31)) i = if n + i < 32 then bt x (n + i) else bt x 31 := by
  unfold bt
  rw [Int32.toBitVec_shiftRight]
  show (x.toBitVec.sshiftRight ((nI n &&& 31).toBitVec.smod 32).toNat).getLsbD i = _
  rw [s_l n hn, BitVec.getLsbD_sshiftRight, BitVec.msb_eq_getLsbD_last]
  simp [hi]
theorem zI_nat (n : Nat) : zI (n : Int) = nI n := by
  apply Int32.toBitVec_inj.mp
  show BitVec.ofInt 32 (n : Int) = BitVec.ofNat 32 n
  rw [BitVec.ofInt_natCast]
theorem b_one : ∀ i, i < 32 → bt 1 i = decide (i = 0) := by decide +kernel
theorem zt_or (a c : Int) (i : Nat) : bt (zI (zOr a c)) i = (bt (zI a) i || bt (zI c) i) := by
  unfold zOr
  rw [zI_of, b_or]
theorem zt_shl {m i : Nat} (hm : m < 32) (hi : i < 32) : bt (zI (zShl 1 (m : Int))) i = decide (i = m) := by
  unfold zShl
  rw [zI_of, zI_nat, b_shl m hm _ hi, zI_1, b_one (i - m) (by omega)]
  by_cases h : i = m
  · subst h
    simp
  · by_cases h2 : m ≤ i
    · have : i - m ≠ 0 := by omega
      simp [h, this]
    · simp [h, h2]
theorem zt_test {M : Int} {b : Nat} (hb : b < 32) : zAnd (zShr M (b : Int)) 1 = 1 ↔ bt (zI M) b = true := by
  unfold zAnd zShr
  rw [zI_of, zI_nat, zI_1]
  have h0 : bt (zI M >>> (nI b &&& 31)) 0 = bt (zI M) b := by
    rw [b_sshr b hb _ (by omega)]
    simp [hb]
  have e : (zI M >>> (nI b &&& 31)) &&& 1 = if bt (zI M) b = true then 1 else 0 := by
    apply b_ext
    intro i hi
    rw [b_and, b_one i hi]
    by_cases hi0 : i = 0
    · subst hi0
      rw [h0]
      cases bt (zI M) b <;> simp [b_0, b_one]
    · cases bt (zI M) b <;> simp [hi0, b_0, b_one i hi]
  rw [e]
  cases bt (zI M) b <;> decide
noncomputable def hm_ (S : St_) (k : Int) : Nat → Int
  | 0 => 0
  | m + 1 => if 0 ≤ ob_ S m k then zOr (hm_ S k m) (zShl 1 m) else hm_ S k m
theorem hm_bit (S : St_) (k : Int) : ∀ (m : Nat), m ≤ 20 → ∀ b : Nat, b < 32 → (bt (zI (hm_ S k m)) b = true ↔ b < m ∧ 0 ≤ ob_ S b k) := by
  intro m
  induction m with
  | zero =>
    intro _ b hb
    show bt (zI 0) b = true ↔ _
    rw [zI_0, b_0]
    simp
  | succ m ih =>
    intro hm b hb
    have e : hm_ S k (m + 1) = if 0 ≤ ob_ S m k then zOr (hm_ S k m) (zShl 1 m) else hm_ S k m := rfl
    rw [e]
    by_cases h : 0 ≤ ob_ S m k
    · rw [if_pos h, zt_or, zt_shl (by omega) hb, Bool.or_eq_true, ih (by omega) b hb, decide_eq_true_eq]
      constructor
      · rintro (⟨q1, q2⟩ | rfl)
        · exact ⟨by omega, q2⟩
        · exact ⟨by omega, h⟩
      · rintro ⟨q1, q2⟩
        by_cases eb : b = m
        · exact Or.inr eb
        · exact Or.inl ⟨by omega, q2⟩
    · rw [if_neg h, ih (by omega) b hb]
      constructor
      · rintro ⟨q1, q2⟩
        exact ⟨by omega, q2⟩
      · rintro ⟨q1, q2⟩
        refine ⟨?_, q2⟩
        by_cases eb : b = m
        · subst eb; exact absurd q2 h
        · omega
theorem hm_rg (S : St_) (k : Int) : ∀ m, zR (hm_ S k m) := by
  intro m
  induction m with
  | zero => exact ⟨by show (-2147483648 : Int) ≤ 0; omega, by show (0 : Int) ≤ 2147483647; omega⟩
  | succ m ih =>
    unfold hm_
    split
    · exact zOr_rg _ _
    · exact ih
/-- all that is owed of a state of the model's -/
def Mi_ (X : St_) : Prop := ∃ S, R_ S X ∧ IV_ S (fun _ => False)
theorem R_nc {S Y : St_} (h : R_ S Y) (e s t : Int) : R_ (nc_ S e s t) (up_ (up_ (up_ (up_ (up_ (up_ (up_ Y 2 (Y 1 0) (e / 6)) 3 (Y 1 0) (e % 6)) 4 (Y 1 0) (s / 101)) 5 (Y 1 0) (s % 101)) 6 (Y 1 0) (t / 10)) 7 (Y 1 0) (t % 10)) 1 0 (Y 1 0 + 1)) := by
  obtain ⟨⟨a1, a2, a3⟩, ⟨b1, b2, b3, b4, b5, b6, b7⟩, ⟨c1, c2, c3, c4, c5⟩, d, f⟩ := h
  have e' : ∀ g, g = 0 ∨ 8 ≤ g → up_ (up_ (up_ (up_ (up_ (up_ (up_ Y 2 (Y 1 0) (e / 6)) 3 (Y 1 0) (e % 6)) 4 (Y 1 0) (s / 101)) 5 (Y 1 0) (s % 101)) 6 (Y 1 0) (t / 10)) 7 (Y 1 0) (t % 10)) 1 0 (Y 1 0 + 1) g = Y g := by
    intro g hg
    funext j
    rw [up_ne _ _ _ _ (by omega), up_ne _ _ _ _ (by omega), up_ne _ _ _ _ (by omega), up_ne _ _ _ _ (by omega), up_ne _ _ _ _ (by omega), up_ne _ _ _ _ (by omega), up_ne _ _ _ _ (by omega)]
  refine ⟨⟨?_, ?_, ?_⟩, ⟨?_, ?_, ?_, ?_, ?_, ?_, ?_⟩, ⟨?_, ?_, ?_, ?_, ?_⟩, fun b h0 h1 => ?_, fun b i hb => ?_⟩
  · rw [e' 0 (by decide), nc_ne _ _ _ _ (by decide)]; exact a1
  · rw [up_at, nc_0, a2]
  · rw [e' 9 (by decide), nc_ne _ _ _ _ (by decide)]; exact a3
  · funext j; unfold nc_; simp [up_, b1, a2]
  · funext j; unfold nc_; simp [up_, b2, a2]
  · funext j; unfold nc_; simp [up_, b3, a2]
  · funext j; unfold nc_; simp [up_, b4, a2]
  · funext j; unfold nc_; simp [up_, b5, a2]
  · funext j; unfold nc_; simp [up_, b6, a2]
  · rw [e' 8 (by decide), nc_ne _ _ _ _ (by decide)]; exact b7
  · rw [e' 10 (by decide), nc_ne _ _ _ _ (by decide)]; exact c1
  · rw [e' 11 (by decide), nc_ne _ _ _ _ (by decide)]; exact c2
  · rw [e' 12 (by decide), nc_ne _ _ _ _ (by decide)]; exact c3
  · rw [e' 13 (by decide), nc_ne _ _ _ _ (by decide)]; exact c4
  · rw [e' 15 (by decide), nc_ne _ _ _ _ (by decide)]; exact c5
  · rw [nc_ne _ _ _ _ (by decide)] at h1
    rw [e' 14 (by decide), nc_ne _ _ _ _ (by decide)]
    exact d b h0 h1
  · unfold bk_ at hb
    rw [nc_ne _ _ _ _ (f := 9) (by decide), nc_ne _ _ _ _ (f := 16) (by decide)] at hb
    rw [e' 16 (by decide), e' 17 (by decide), nc_ne _ _ _ _ (f := 17) (by decide), nc_ne _ _ _ _ (f := 18) (by decide)]
    exact f b i hb
def pM_contact (e s t : Int) (X : St_) : Prop := Mi_ X
def qM_contact (e s t : Int) (X : St_) (z : Int) (Y : St_) : Prop := ∀ S, R_ S X → IV_ S (fun _ => False) → ∃ T, Ct_ S e s t z T ∧ R_ T Y
def csM_contact : Cs_ := (3, false, 1, (fun as X => match as with
  | [a, b, c] => pM_contact a b c X
  | _ => False), (fun as X z Y => match as with
  | [a, b, c] => qM_contact a b c X z Y
  | _ => False))
def mM_contact : Mt_ := (LM, [(131, csM_badEnds), (135, csM_retry)], 1, EM_contact)
set_option maxRecDepth 100000 in
theorem sM_contact_0 {Rt : Int → St_ → Prop} {G : Nat → Lo_ → List Vl_ → St_ → Prop} (hG : Clo_ mM_contact Rt G) {X : St_} {e s t : Int} (h : pM_badEnds e X ∧ (∀ (z1 : Int) (Y1 : St_), qM_badEnds e X z1 Y1 → (¬ z1 = 0 → Rt (-1) Y1) ∧ (z1 = 0 → (s < 0 → Rt (-1) Y1) ∧ (0 ≤ s → (10200 < s → Rt (-1) Y1) ∧ (s ≤ 10200 → 0 ≤ s ∧ 0 < (101 : Int) ∧ 0 ≤ s ∧ 0 < (101 : Int) ∧ (s % 101 ≤ s / 101 → Rt (-1) Y1) ∧ (s / 101 < s % 101 → (t < 10 → Rt (-1) Y1) ∧ (10 ≤ t → (t ≤ 99 → (¬ Y1 1 0 = 10 → 0 ≤ e ∧ 0 < (6 : Int) ∧ 0 ≤ Y1 1 0 ∧ Y1 1 0 < 10 ∧ 0 ≤ e ∧ 0 < (6 : Int) ∧ 0 ≤ Y1 1 0 ∧ Y1 1 0 < 10 ∧ 0 ≤ s ∧ 0 < (101 : Int) ∧ 0 ≤ Y1 1 0 ∧ Y1 1 0 < 10 ∧ 0 ≤ s ∧ 0 < (101 : Int) ∧ 0 ≤ Y1 1 0 ∧ Y1 1 0 < 10 ∧ 0 ≤ t ∧ 0 < (10 : Int) ∧ 0 ≤ Y1 1 0 ∧ Y1 1 0 < 10 ∧ 0 ≤ t ∧ 0 < (10 : Int) ∧ 0 ≤ Y1 1 0 ∧ Y1 1 0 < 10 ∧ zR ((Y1 1 0) + 1) ∧ pM_retry  (up_ (up_ (up_ (up_ (up_ (up_ (up_ Y1 2 (Y1 1 0) (e / 6)) 3 (Y1 1 0) (e % 6)) 4 (Y1 1 0) (s / 101)) 5 (Y1 1 0) (s % 101)) 6 (Y1 1 0) (t / 10)) 7 (Y1 1 0) (t % 10)) 1 0 ((Y1 1 0) + 1)) ∧ (∀ (z2 : Int) (Y2 : St_), qM_retry  (up_ (up_ (up_ (up_ (up_ (up_ (up_ Y1 2 (Y1 1 0) (e / 6)) 3 (Y1 1 0) (e % 6)) 4 (Y1 1 0) (s / 101)) 5 (Y1 1 0) (s % 101)) 6 (Y1 1 0) (t / 10)) 7 (Y1 1 0) (t % 10)) 1 0 ((Y1 1 0) + 1)) z2 Y2 → zR ((Y2 1 0) - 1) ∧ Rt ((Y2 1 0) - 1) Y2)) ∧ (Y1 1 0 = 10 → Rt (-3) Y1)) ∧ (99 < t → Rt (-1) Y1)))))))) : G 0 [some (.inr 27), some (.inl e), some (.inl s), some (.inl t)] [] X := run_ hG [] 87 0 _ _ X h
theorem vM_contact {e s t : Int} {X : St_} (r1 : zR e) (r2 : zR s) (r3 : zR t) (hX : rgX_ X) (hp : pM_contact e s t X) {G : Nat → Lo_ → List Vl_ → St_ → Prop} (hG : Clo_ mM_contact (qM_contact e s t X) G) : G 0 [some (.inr 27), some (.inl e), some (.inl s), some (.inl t)] [] X := by
  obtain ⟨S0, hR0, hI0⟩ := hp
  have hn0 := hI0.1.1.1.1
  have hn1 := hI0.1.1.1.2.1
  rw [← hR0.1.2.1] at hn0 hn1
  have bad : ∀ X' : St_, X' = X → ¬ ctOK_ e s t → qM_contact e s t X (-1) X' := fun X' hX' hno S hR _ => ⟨S, Or.inr (Or.inr ⟨hno, rfl, rfl⟩), by rw [hX']; exact hR⟩
  refine sM_contact_0 hG ⟨trivial, ?_⟩
  rintro z1 Y1 ⟨rfl, hz1, hi1⟩
  refine ⟨fun h => bad _ rfl (fun q => h (hi1.mpr q.1)), fun h => ?_⟩
  have k1 := hi1.mp h
  refine ⟨fun h => bad _ rfl (fun q => by have := q.2.1; omega), fun h0 => ⟨fun h => bad _ rfl (fun q => by have := q.2.1; omega), fun h1 => ⟨by omega, by omega, by omega, by omega, fun h => bad _ rfl (fun q => by have := q.2.1; omega), fun h2 => ⟨fun h => bad _ rfl (fun q => by have := q.2.2; omega), fun h3 => ⟨fun h4 => ?_, fun h => bad _ rfl (fun q => by have := q.2.2; omega)⟩⟩⟩⟩⟩
  have hOK : ctOK_ e s t := ⟨k1, ⟨h0, by omega, h2⟩, ⟨h3, by omega⟩⟩
  refine ⟨fun hne => ⟨by omega, by omega, by omega, by omega, by omega, by omega, by omega, by omega, by omega, by omega, by omega, by omega, by omega, by omega, by omega, by omega, by omega, by omega, by omega, by omega, by omega, by omega, by omega, by omega, by omega, ?_, ?_⟩, fun he S hR _ => ⟨S, Or.inr (Or.inl ⟨hOK, by rw [← hR.1.2.1]; omega, rfl, rfl⟩), hR⟩⟩
  · exact ⟨nc_ S0 e s t, R_nc hR0 e s t, nc_IV hI0 (by rw [← hR0.1.2.1]; omega) hOK.1 hOK.2.1 hOK.2.2⟩
  · intro z2 Y2 hq
    have key : ∀ S, R_ S Y1 → IV_ S (fun _ => False) → R_ (ry_ (nc_ S e s t) (S 9 0).toNat) Y2 ∧ Y2 1 0 = S 0 0 + 1 := by
      intro S hR hI
      have hI' := nc_IV hI (e := e) (s := s) (t := t) (by rw [← hR.1.2.1]; omega) hOK.1 hOK.2.1 hOK.2.2
      have hr := hq (nc_ S e s t) (R_nc hR e s t) hI'
      rw [nc_ne _ _ _ _ (f := 9) (by decide)] at hr
      have h9 := hI.1.1.2.2.1
      refine ⟨hr, ?_⟩
      rw [hr.1.2.1, (ry_IV hI' (S 9 0).toNat (by rw [nc_ne _ _ _ _ (f := 9) (by decide)]; omega)).2 0 (by decide) (by decide) (by decide) (by decide) (by decide), nc_0]
    have e0 := (key S0 hR0 hI0).2
    have hS0 : S0 0 0 = Y1 1 0 := hR0.1.2.1.symm
    refine ⟨by omega, fun S hR hI => ?_⟩
    obtain ⟨q1, q2⟩ := key S hR hI
    exact ⟨_, Or.inl ⟨hOK, by rw [← hR.1.2.1]; omega, by omega, rfl⟩, q1⟩
theorem ckM_contact : ∀ q ∈ mM_contact.2.1, Ck_ 1 RX1 LM 6 q.1 q.2 := List.forall_mem_cons.mpr ⟨⟨yX1_badEnds, cX1_badEnds, 2, 0, okM_badEnds, by decide, by decide, by decide +kernel, rfl, ⟨by decide, by decide⟩, lw_V q350 q352 qs17 q34 q353⟩, List.forall_mem_cons.mpr ⟨⟨yX1_retry, cX1_retry, 2, 5, okM_retry, by decide, by decide, by decide +kernel, rfl, ⟨by decide, by decide⟩, lw_V q354 q356 qs18 q34 q357⟩, fun _ h => absurd h List.not_mem_nil⟩⟩
theorem okM_contact : Cn_ 1 LM yX1_contact cX1_contact 4 6 csM_contact := by
  refine Cn_of mM_contact KlM hfM (by decide +kernel) rfl rfl rfl hM_contact ckM_contact (Or.inl (by decide)) ?_
  intro as X hl hr hX hp G hG
  match as, hl with
  | [a, b, c], _ => exact vM_contact (hr _ (by simp)) (hr _ (by simp)) (hr _ (by simp)) hX hp hG
noncomputable def oy_ (Y : St_) (b k : Int) : Int := lst_ (fun i => 0 ≤ i ∧ i < Y 15 b ∧ Y 16 (64 * b + i) = k ∧ Y 0 0 < Y 17 (64 * b + i) + tk_ Y k (Y 12 b))
theorem R_ob {S Y : St_} (hR : R_ S Y) {b k : Int} (h0 : 0 ≤ b) (h1 : b < S 9 0) : oy_ Y b k = ob_ S b k := by
  unfold oy_ ob_
  congr 1
  funext i
  apply propext
  rw [hR.2.2.1.2.2.2.2, hR.1.1, R_tk hR, hR.2.2.1.2.2.1]
  constructor
  · rintro ⟨a1, a2, a3, a4⟩
    obtain ⟨e1, e2⟩ := hR.2.2.2.2 b i ⟨h0, h1, a1, a2⟩
    rw [e1] at a3
    rw [e2] at a4
    exact ⟨a1, a2, a3, a4⟩
  · rintro ⟨a1, a2, a3, a4⟩
    obtain ⟨e1, e2⟩ := hR.2.2.2.2 b i ⟨h0, h1, a1, a2⟩
    rw [e1, e2]
    exact ⟨a1, a2, a3, a4⟩
def pM_hitAt (b k : Int) (X : St_) : Prop := Mp_ X ∧ 0 ≤ b ∧ b < X 9 0 ∧ 0 ≤ k ∧ k < X 1 0
def qM_hitAt (b k : Int) (X : St_) (z : Int) (Y : St_) : Prop := Y = X ∧ z = oy_ X b k
def csM_hitAt : Cs_ := (2, false, 1, (fun as X => match as with
  | [a, b] => pM_hitAt a b X
  | _ => False), (fun as X z Y => match as with
  | [a, b] => qM_hitAt a b X z Y
  | _ => False))
def mM_hitAt : Mt_ := (LM, [(77, csM_ticks)], 1, EM_hitAt)
set_option maxRecDepth 100000 in
theorem sM_hitAt_0 {Rt : Int → St_ → Prop} {G : Nat → Lo_ → List Vl_ → St_ → Prop} (hG : Clo_ mM_hitAt Rt G) {X : St_} {b k : Int} (h : G 2 [some (.inr 27), some (.inl b), some (.inl k), some (.inl 0)] [] X) : G 0 [some (.inr 27), some (.inl b), some (.inl k)] [] X := run_ hG [(2, 4)] 2 0 _ _ X h
set_option maxRecDepth 100000 in
theorem sM_hitAt_2 {Rt : Int → St_ → Prop} {G : Nat → Lo_ → List Vl_ → St_ → Prop} (hG : Clo_ mM_hitAt Rt G) {X : St_} {b k i : Int} (h : 0 ≤ b ∧ b < 10 ∧ (X 15 b ≤ i → Rt (-1) X) ∧ (i < X 15 b → zR (64 * b) ∧ zR ((64 * b) + i) ∧ 0 ≤ (64 * b) + i ∧ (64 * b) + i < 640 ∧ (¬ X 16 ((64 * b) + i) = k → zR (i + 1) ∧ G 2 [some (.inr 27), some (.inl b), some (.inl k), some (.inl (i + 1))] [] X) ∧ (X 16 ((64 * b) + i) = k → zR (64 * b) ∧ zR ((64 * b) + i) ∧ 0 ≤ (64 * b) + i ∧ (64 * b) + i < 640 ∧ 0 ≤ b ∧ b < 10 ∧ pM_ticks k (X 12 b) X ∧ (∀ (z1 : Int) (Y1 : St_), qM_ticks k (X 12 b) X z1 Y1 → zR ((X 17 ((64 * b) + i)) + z1) ∧ ((X 17 ((64 * b) + i)) + z1 ≤ Y1 0 0 → zR (i + 1) ∧ G 2 [some (.inr 27), some (.inl b), some (.inl k), some (.inl (i + 1))] [] Y1) ∧ (Y1 0 0 < (X 17 ((64 * b) + i)) + z1 → Rt i Y1))))) : G 2 [some (.inr 27), some (.inl b), some (.inl k), some (.inl i)] [] X := run_ hG [(2, 4)] 37 2 _ _ X h
theorem lM_hitAt {b k : Int} {X : St_} (hp : pM_hitAt b k X) {G : Nat → Lo_ → List Vl_ → St_ → Prop} (hG : Clo_ mM_hitAt (qM_hitAt b k X) G) :
    ∀ (d : Nat) (i : Int), X 15 b - i ≤ d → 0 ≤ i → i ≤ X 15 b → (∀ j, 0 ≤ j → j < i → ¬ (X 16 (64 * b + j) = k ∧ X 0 0 < X 17 (64 * b + j) + tk_ X k (X 12 b))) → G 2 [some (.inr 27), some (.inl b), some (.inl k), some (.inl i)] [] X := by
  obtain ⟨⟨S, hR, hJ⟩, h1, h2, h3, h4⟩ := hp
  have hg := hJ.1
  have h9 := hg.2.2.1
  have h2' : b < S 9 0 := by rw [← hR.1.2.2]; exact h2
  have hB := hg.2.2.2.2 b h1 h2'
  have hB2 := hB.2.2.1
  have hn := hg.1.2.1
  have h4' : k < S 0 0 := by rw [← hR.1.2.1]; exact h4
  have hk := hg.1.2.2 k h3 h4'
  obtain ⟨d1, d2, d3, d4, d5, d6, d7, d8, d9, d10, d11⟩ := hk
  have hs1 := hB.1.2.2.2.2.2.1
  have hs2 := hB.1.2.2.2.2.2.2
  have e6 : X 6 k = S 6 k := by rw [hR.2.1.2.2.2.2.1]
  have e12 : X 12 b = S 12 b := by rw [hR.2.2.1.2.2.1]
  have e15 : X 15 b = S 16 b := by rw [hR.2.2.1.2.2.2.2]
  have ht := tk_pos (X := X) (k := k) (size := X 12 b) (by rw [e6]; exact d8) (by rw [e12]; exact hs1)
  have ht2 := tk_le (X := X) (k := k) (size := X 12 b) (by rw [e6]; exact d8) (by rw [e12]; exact hs1)
  have fin : ∀ i, X 15 b ≤ i → (∀ j, 0 ≤ j → j < i → ¬ (X 16 (64 * b + j) = k ∧ X 0 0 < X 17 (64 * b + j) + tk_ X k (X 12 b))) → qM_hitAt b k X (-1) X := by
    intro i hi hno
    exact ⟨rfl, (lst_none fun j hj => hno j hj.1 (by omega) hj.2.2).symm⟩
  intro d
  induction d with
  | zero =>
    intro i hd h0 hle hno
    exact sM_hitAt_2 hG ⟨h1, by omega, fun h => fin i h hno, fun h => by omega⟩
  | succ d ih =>
    intro i hd h0 hle hno
    have next : i < X 15 b → ¬ (X 16 (64 * b + i) = k ∧ X 0 0 < X 17 (64 * b + i) + tk_ X k (X 12 b)) → G 2 [some (.inr 27), some (.inl b), some (.inl k), some (.inl (i + 1))] [] X := by
      intro hlt hn
      refine ih (i + 1) (by omega) (by omega) (by omega) (fun j j0 j1 => ?_)
      by_cases ej : j = i
      · rw [ej]; exact hn
      · exact hno j j0 (by omega)
    refine sM_hitAt_2 hG ⟨h1, by omega, fun h => fin i h hno, fun h => ⟨by omega, by omega, by omega, by omega, fun hne => ⟨by omega, next h (fun q => hne q.1)⟩, fun he => ⟨by omega, by omega, by omega, by omega, h1, by omega, ⟨h3, by omega, by rw [e12]; exact hs1, by rw [e12]; exact hs2, by rw [e6]; exact d8, by rw [e6]; exact d9⟩, ?_⟩⟩⟩
    have hbk : bk_ S b i := ⟨h1, h2', h0, by omega⟩
    have hcb := cb_bound hg hbk
    rw [← (hR.2.2.2.2 b i hbk).2] at hcb
    rintro z1 Y1 ⟨rfl, rfl⟩
    refine ⟨by omega, fun hle2 => ⟨by omega, next h (fun q => by have := q.2; omega)⟩, fun hgt => ⟨rfl, ?_⟩⟩
    refine (lst_eq ⟨h0, h, he, hgt⟩ fun j hj => ?_).symm
    apply Int.not_lt.mp
    intro hlt
    exact hno j hj.1 hlt hj.2.2
theorem vM_hitAt {b k : Int} {X : St_} (r1 : zR b) (r2 : zR k) (hX : rgX_ X) (hp : pM_hitAt b k X) {G : Nat → Lo_ → List Vl_ → St_ → Prop} (hG : Clo_ mM_hitAt (qM_hitAt b k X) G) : G 0 [some (.inr 27), some (.inl b), some (.inl k)] [] X := by
  have hp' := hp
  obtain ⟨⟨S, hR, hJ⟩, h1, h2, h3, h4⟩ := hp'
  have hB := (hJ.1.2.2.2.2 b h1 (by rw [← hR.1.2.2]; exact h2)).2.2.1
  rw [← hR.2.2.1.2.2.2.2] at hB
  exact sM_hitAt_0 hG (lM_hitAt hp hG (X 15 b).toNat 0 (by omega) (by omega) (by omega) (fun j j0 j1 => by omega))
theorem ckM_hitAt : ∀ q ∈ mM_hitAt.2.1, Ck_ 1 RX1 LM 1 q.1 q.2 := List.forall_mem_cons.mpr ⟨⟨yX1_ticks, cX1_ticks, 4, 0, okM_ticks, by decide, by decide, by decide +kernel, rfl, ⟨by decide, by decide⟩, lw_V q370 q372 qs22 q34 q373⟩, fun _ h => absurd h List.not_mem_nil⟩
theorem okM_hitAt : Cn_ 1 LM yX1_hitAt cX1_hitAt 4 1 csM_hitAt := by
  refine Cn_of mM_hitAt KlM hfM (by decide +kernel) rfl rfl rfl hM_hitAt ckM_hitAt (Or.inl (by decide)) ?_
  intro as X hl hr hX hp G hG
  match as, hl with
  | [a, b], _ => exact vM_hitAt (hr _ (by simp)) (hr _ (by simp)) hX hp hG
end
section
/-! THE MODEL's cancel, send, pass, time -/
theorem R_up1 {S Y : St_} (h : R_ S Y) (k v : Int) : R_ (up_ S 1 k v) (up_ Y 8 k v) := by
  have e : ∀ f, f ≠ 1 → up_ S 1 k v f = S f := fun f hf => by funext j; exact up_ne _ _ _ _ hf
  have e' : ∀ f, f ≠ 8 → up_ Y 8 k v f = Y f := fun f hf => by funext j; exact up_ne _ _ _ _ hf
  obtain ⟨r1, r2, r3, r4, r5⟩ := h
  refine ⟨?_, ?_, ?_, fun b b0 b1 => ?_, fun b i hb => ?_⟩
  · rw [e 19 (by decide), e 0 (by decide), e 9 (by decide), e' 0 (by decide), e' 1 (by decide), e' 9 (by decide)]
    exact r1
  · rw [e 2 (by decide), e 3 (by decide), e 4 (by decide), e 5 (by decide), e 6 (by decide), e 7 (by decide), e' 2 (by decide), e' 3 (by decide), e' 4 (by decide), e' 5 (by decide), e' 6 (by decide), e' 7 (by decide)]
    refine ⟨r2.1, r2.2.1, r2.2.2.1, r2.2.2.2.1, r2.2.2.2.2.1, r2.2.2.2.2.2.1, ?_⟩
    funext j
    have e8 := r2.2.2.2.2.2.2
    by_cases ej : j = k
    · rw [ej, up_at, up_at]
    · rw [up_nei _ _ _ _ ej, up_nei _ _ _ _ ej, e8]
  · rw [e 10 (by decide), e 11 (by decide), e 12 (by decide), e 13 (by decide), e 16 (by decide), e' 10 (by decide), e' 11 (by decide), e' 12 (by decide), e' 13 (by decide), e' 15 (by decide)]
    exact r3
  · rw [e 9 (by decide)] at b1
    rw [e 14 (by decide), e' 14 (by decide)]
    exact r4 b b0 b1
  · unfold bk_ at hb
    rw [e 9 (by decide), e 16 (by decide)] at hb
    rw [e 17 (by decide), e 18 (by decide), e' 16 (by decide), e' 17 (by decide)]
    exact r5 b i hb
theorem R_ls {S Y : St_} (h : R_ S Y) {b i : Int} (hi : i ≤ S 16 b) : R_ (ls_ S b i) (up_ Y 15 b i) := by
  have e : ∀ f, f ≠ 8 → f ≠ 16 → ls_ S b i f = S f := fun f h8 h16 => ls_ne h8 h16
  have e' : ∀ f, f ≠ 15 → up_ Y 15 b i f = Y f := fun f hf => by funext j; exact up_ne _ _ _ _ hf
  obtain ⟨r1, r2, r3, r4, r5⟩ := h
  refine ⟨?_, ?_, ?_, fun c b0 b1 => ?_, fun c j hb => ?_⟩
  · rw [e 19 (by decide) (by decide), e 0 (by decide) (by decide), e 9 (by decide) (by decide), e' 0 (by decide), e' 1 (by decide), e' 9 (by decide)]
    exact r1
  · rw [e 1 (by decide) (by decide), e 2 (by decide) (by decide), e 3 (by decide) (by decide), e 4 (by decide) (by decide), e 5 (by decide) (by decide), e 6 (by decide) (by decide), e 7 (by decide) (by decide), e' 2 (by decide), e' 3 (by decide), e' 4 (by decide), e' 5 (by decide), e' 6 (by decide), e' 7 (by decide), e' 8 (by decide)]
    exact r2
  · rw [e 10 (by decide) (by decide), e 11 (by decide) (by decide), e 12 (by decide) (by decide), e 13 (by decide) (by decide), e' 10 (by decide), e' 11 (by decide), e' 12 (by decide), e' 13 (by decide)]
    refine ⟨r3.1, r3.2.1, r3.2.2.1, r3.2.2.2.1, ?_⟩
    funext c
    rw [ls_16]
    by_cases ec : c = b
    · rw [ec, up_at, if_pos rfl]
    · rw [up_nei _ _ _ _ ec, if_neg ec, r3.2.2.2.2]
  · rw [e 9 (by decide) (by decide)] at b1
    rw [e 14 (by decide) (by decide), e' 14 (by decide)]
    exact r4 c b0 b1
  · unfold bk_ at hb
    rw [e 9 (by decide) (by decide), ls_16] at hb
    rw [e 17 (by decide) (by decide), e 18 (by decide) (by decide), e' 16 (by decide), e' 17 (by decide)]
    refine r5 c j ⟨hb.1, hb.2.1, hb.2.2.1, ?_⟩
    have h4 := hb.2.2.2
    by_cases ec : c = b
    · rw [if_pos ec] at h4
      rw [ec]
      omega
    · rw [if_neg ec] at h4
      exact h4
def pM_cancel (k : Int) (X : St_) : Prop := Mi_ X
def qM_cancel (k : Int) (X : St_) (z : Int) (Y : St_) : Prop := ∀ S, R_ S X → IV_ S (fun _ => False) → ∃ T, Ca_ S k z T ∧ R_ T Y
def csM_cancel : Cs_ := (1, false, 1, (fun as X => match as with
  | [a] => pM_cancel a X
  | _ => False), (fun as X z Y => match as with
  | [a] => qM_cancel a X z Y
  | _ => False))
def mM_cancel : Mt_ := (LM, [(138, csM_hitAt), (127, csM_plan), (135, csM_retry)], 1, EM_cancel)
set_option maxRecDepth 100000 in
theorem sM_cancel_0 {Rt : Int → St_ → Prop} {G : Nat → Lo_ → List Vl_ → St_ → Prop} (hG : Clo_ mM_cancel Rt G) {X : St_} {k : Int} (h : (k < 0 → Rt (-1) X) ∧ (0 ≤ k → (X 1 0 ≤ k → Rt (-1) X) ∧ (k < X 1 0 → 0 ≤ k ∧ k < 10 ∧ (X 8 k = 0 → 0 ≤ k ∧ k < 10 ∧ ((1 : Int) = 0 ∨ (1 : Int) = 1) ∧ G 37 [some (.inr 27), some (.inl k), some (.inl 0), some (.inl 0), some (.inl 0)] [] (up_ X 8 k 1)) ∧ (¬ X 8 k = 0 → Rt (-1) X)))) : G 0 [some (.inr 27), some (.inl k)] [] X := run_ hG [(37, 5), (88, 5)] 22 0 _ _ X h
set_option maxRecDepth 100000 in
theorem sM_cancel_37 {Rt : Int → St_ → Prop} {G : Nat → Lo_ → List Vl_ → St_ → Prop} (hG : Clo_ mM_cancel Rt G) {X : St_} {k hit many b : Int} (h : (X 9 0 ≤ b → G 88 [some (.inr 27), some (.inl k), some (.inl hit), some (.inl many), some (.inl 0)] [] X) ∧ (b < X 9 0 → pM_hitAt b k X ∧ (∀ (z1 : Int) (Y1 : St_), qM_hitAt b k X z1 Y1 → (z1 < 0 → zR (b + 1) ∧ G 37 [some (.inr 27), some (.inl k), some (.inl hit), some (.inl many), some (.inl (b + 1))] [] Y1) ∧ (0 ≤ z1 → 0 ≤ b ∧ b < 10 ∧ zR (many + 1) ∧ zR (b + 1) ∧ G 37 [some (.inr 27), some (.inl k), some (.inl (zOr hit (zShl 1 b))), some (.inl (many + 1)), some (.inl (b + 1))] [] (up_ Y1 15 b z1))))) : G 37 [some (.inr 27), some (.inl k), some (.inl hit), some (.inl many), some (.inl b)] [] X := run_ hG [(37, 5), (88, 5)] 25 37 _ _ X h
set_option maxRecDepth 100000 in
theorem sM_cancel_88 {Rt : Int → St_ → Prop} {G : Nat → Lo_ → List Vl_ → St_ → Prop} (hG : Clo_ mM_cancel Rt G) {X : St_} {k hit many b : Int} (h : (X 9 0 ≤ b → pM_retry  X ∧ (∀ (z1 : Int) (Y1 : St_), qM_retry  X z1 Y1 → Rt many Y1)) ∧ (b < X 9 0 → (¬ zAnd (zShr hit b) 1 = 1 → zR (b + 1) ∧ G 88 [some (.inr 27), some (.inl k), some (.inl hit), some (.inl many), some (.inl (b + 1))] [] X) ∧ (zAnd (zShr hit b) 1 = 1 → pM_plan b X ∧ (∀ (z2 : Int) (Y2 : St_), qM_plan b X z2 Y2 → zR (b + 1) ∧ G 88 [some (.inr 27), some (.inl k), some (.inl hit), some (.inl many), some (.inl (b + 1))] [] Y2)))) : G 88 [some (.inr 27), some (.inl k), some (.inl hit), some (.inl many), some (.inl b)] [] X := run_ hG [(37, 5), (88, 5)] 16 88 _ _ X h
/-- what cancel needs of an abstract state: k is a contact that isn't cancelled, nb bundles -/
def Cq_ (k : Int) (nb : Nat) (X S : St_) : Prop := R_ S X ∧ IV_ S (fun _ => False) ∧ (0 ≤ k ∧ k < S 0 0 ∧ S 1 k = 0) ∧ S 9 0 = nb ∧ nb ≤ 10
theorem Cq_lc {k : Int} {nb : Nat} {X S : St_} (h : Cq_ k nb X S) : ∀ (m : Nat), m ≤ nb → IV_ (lc_ (up_ S 1 k 1) k m) (fun c => c < m ∧ 0 ≤ ob_ (up_ S 1 k 1) c k) ∧ (∀ f, f ≠ 8 → f ≠ 16 → lc_ (up_ S 1 k 1) k m f = up_ S 1 k 1 f) ∧ (∀ c, (m : Int) ≤ c → eb_ (up_ S 1 k 1) (lc_ (up_ S 1 k 1) k m) c) ∧ lc_ (up_ S 1 k 1) k m 9 0 = nb ∧ lc_ (up_ S 1 k 1) k m 0 0 = S 0 0 := by
  obtain ⟨hR, hI, hk, h9, hnb⟩ := h
  have e9 : up_ S 1 k 1 9 0 = nb := by rw [up_ne _ _ _ _ (by decide)]; exact h9
  have hn := hI.1.1.1.2.1
  intro m hm
  obtain ⟨l1, l2, l3⟩ := lc_IV (k := k) (cf_J hI.1 k) (cf_rOK hI hk.1 (by omega) hk.2.2) m (by rw [e9]; omega)
  refine ⟨l1, l2, l3, by rw [l2 9 (by decide) (by decide)]; exact e9, ?_⟩
  rw [l2 0 (by decide) (by decide), up_ne _ _ _ _ (by decide)]
theorem Cq_hp {k : Int} {nb : Nat} {X S : St_} (h : Cq_ k nb X S) : ∀ (m : Nat), m ≤ nb → IV_ (hp_ (up_ S 1 k 1) (lc_ (up_ S 1 k 1) k nb) k m) (fun c => (m : Int) ≤ c ∧ 0 ≤ ob_ (up_ S 1 k 1) c k) ∧ hp_ (up_ S 1 k 1) (lc_ (up_ S 1 k 1) k nb) k m 9 0 = nb := by
  obtain ⟨l1, -, -, l9, -⟩ := Cq_lc h nb (Nat.le_refl _)
  intro m hm
  obtain ⟨p1, p2⟩ := hp_IV (X := up_ S 1 k 1) (k := k) (IV_congr (E' := fun c => 0 ≤ ob_ (up_ S 1 k 1) c k) l1 (fun c hc0 hc1 => ⟨fun q => q.2, fun q => ⟨by rw [l9] at hc1; omega, q⟩⟩)) m (by rw [l9]; omega)
  exact ⟨p1, by rw [p2 9 (by decide) (by decide) (by decide) (by decide) (by decide)]; exact l9⟩
/-- the bundles hit are the same for every S -/
theorem Cq_ob {k : Int} {nb : Nat} {X S T : St_} (h : Cq_ k nb X S) (hT : Cq_ k nb X T) {b : Int} (h0 : 0 ≤ b) (h1 : b < nb) : ob_ (up_ S 1 k 1) b k = ob_ (up_ T 1 k 1) b k := by
  rw [← R_ob (R_up1 h.1 k 1) h0 (by rw [up_ne _ _ _ _ (by decide), h.2.2.2.1]; exact h1), ← R_ob (R_up1 hT.1 k 1) h0 (by rw [up_ne _ _ _ _ (by decide), hT.2.2.2.1]; exact h1)]
theorem Cq_nh {k : Int} {nb : Nat} {X S T : St_} (h : Cq_ k nb X S) (hT : Cq_ k nb X T) : nh_ (up_ S 1 k 1) k nb = nh_ (up_ T 1 k 1) k nb := by
  unfold nh_
  refine sm_congr nb (fun b b0 b1 => ?_)
  show (if 0 ≤ ob_ (up_ S 1 k 1) b k then (1 : Int) else 0) = if 0 ≤ ob_ (up_ T 1 k 1) b k then 1 else 0
  rw [Cq_ob h hT b0 b1]
theorem lM_cancel88 {k : Int} {nb : Nat} {X S0 : St_} (h0 : Cq_ k nb X S0) {G : Nat → Lo_ → List Vl_ → St_ → Prop} (hG : Clo_ mM_cancel (qM_cancel k X) G) (hall : ∀ S, R_ S X → IV_ S (fun _ => False) → Cq_ k nb X S) :
    ∀ (d m : Nat) (Z : St_), nb = m + d → (∀ S, Cq_ k nb X S → R_ (hp_ (up_ S 1 k 1) (lc_ (up_ S 1 k 1) k nb) k m) Z) → G 88 [some (.inr 27), some (.inl k), some (.inl (hm_ (up_ S0 1 k 1) k nb)), some (.inl (nh_ (up_ S0 1 k 1) k nb)), some (.inl (m : Int))] [] Z := by
  have hnb := h0.2.2.2.2
  intro d
  induction d with
  | zero =>
    intro m Z hm hZ
    have hm : m = nb := by omega
    subst hm
    obtain ⟨p1, p9⟩ := Cq_hp h0 m (Nat.le_refl _)
    have hR := hZ S0 h0
    have z9 : Z 9 0 = m := by rw [hR.1.2.2, p9]
    refine sM_cancel_88 hG ⟨fun _ => ⟨⟨_, hR, IV_congr p1 (fun c hc0 hc1 => ⟨fun q => by rw [p9] at hc1; omega, fun q => q.elim⟩)⟩, ?_⟩, fun h => by omega⟩
    intro z1 Y1 hq S hS hI
    have hC := hall S hS hI
    obtain ⟨s1, s9⟩ := Cq_hp hC m (Nat.le_refl _)
    have hr := hq _ (hZ S hC) (IV_congr s1 (fun c hc0 hc1 => ⟨fun q => by rw [s9] at hc1; omega, fun q => q.elim⟩))
    rw [s9, Int.toNat_natCast] at hr
    have e9 : (S 9 0).toNat = m := by rw [hC.2.2.2.1, Int.toNat_natCast]
    refine ⟨ca_ S k, Or.inl ⟨hC.2.2.1, ?_, rfl⟩, ?_⟩
    · rw [e9]
      exact Cq_nh h0 hC
    · unfold ca_
      rw [e9]
      exact hr
  | succ d ih =>
    intro m Z hm hZ
    obtain ⟨p1, p9⟩ := Cq_hp h0 m (by omega)
    have hR := hZ S0 h0
    have z9 : Z 9 0 = nb := by rw [hR.1.2.2, p9]
    have hbit := hm_bit (up_ S0 1 k 1) k nb (by omega) m (by omega)
    have htest := zt_test (M := hm_ (up_ S0 1 k 1) k nb) (b := m) (by omega)
    refine sM_cancel_88 hG ⟨fun h => by omega, fun h => ⟨fun hne => ⟨by omega, ?_⟩, fun he => ⟨?_, ?_⟩⟩⟩
    · have hob : ¬ 0 ≤ ob_ (up_ S0 1 k 1) m k := fun q => hne (htest.mpr (hbit.mpr ⟨by omega, q⟩))
      have q := ih (m + 1) Z (by omega) (fun S hC => ?_)
      · push_cast at q; exact q
      · show R_ (if 0 ≤ ob_ (up_ S 1 k 1) m k then _ else _) Z
        rw [if_neg (by rw [Cq_ob hC h0 (by omega) (by omega)]; exact hob)]
        exact hZ S hC
    · have hob := (hbit.mp (htest.mp he)).2
      refine ⟨_, hR, p1.1, by omega, by rw [p9]; omega, ?_⟩
      rcases p1.2 m (by omega) (by rw [p9]; omega) with ⟨-, q⟩ | ⟨q, -⟩
      · exact q
      · exact absurd ⟨by omega, hob⟩ q
    · have hob := (hbit.mp (htest.mp he)).2
      intro z2 Y2 hq
      refine ⟨by omega, ?_⟩
      have q := ih (m + 1) Y2 (by omega) (fun S hC => ?_)
      · push_cast at q; exact q
      · show R_ (if 0 ≤ ob_ (up_ S 1 k 1) m k then _ else _) Y2
        rw [if_pos (by rw [Cq_ob hC h0 (by omega) (by omega)]; exact hob)]
        exact hq _ (hZ S hC) (Cq_hp hC m (by omega)).1.1
theorem lM_cancel37 {k : Int} {nb : Nat} {X S0 : St_} (h0 : Cq_ k nb X S0) {G : Nat → Lo_ → List Vl_ → St_ → Prop} (hG : Clo_ mM_cancel (qM_cancel k X) G) (hall : ∀ S, R_ S X → IV_ S (fun _ => False) → Cq_ k nb X S) :
    ∀ (d m : Nat) (Z : St_), nb = m + d → (∀ S, Cq_ k nb X S → R_ (lc_ (up_ S 1 k 1) k m) Z) → G 37 [some (.inr 27), some (.inl k), some (.inl (hm_ (up_ S0 1 k 1) k m)), some (.inl (nh_ (up_ S0 1 k 1) k m)), some (.inl (m : Int))] [] Z := by
  have hnb := h0.2.2.2.2
  intro d
  induction d with
  | zero =>
    intro m Z hm hZ
    have hm : m = nb := by omega
    subst hm
    obtain ⟨l1, -, -, l9, -⟩ := Cq_lc h0 m (Nat.le_refl _)
    have z9 : Z 9 0 = m := by rw [(hZ S0 h0).1.2.2, l9]
    exact sM_cancel_37 hG ⟨fun _ => lM_cancel88 h0 hG hall m 0 Z (by omega) hZ, fun h => by omega⟩
  | succ d ih =>
    intro m Z hm hZ
    obtain ⟨l1, l2, l3, l9, l0⟩ := Cq_lc h0 m (by omega)
    have hR := hZ S0 h0
    have z9 : Z 9 0 = nb := by rw [hR.1.2.2, l9]
    have z1 : Z 1 0 = S0 0 0 := by rw [hR.1.2.1, l0]
    have hob : ∀ S, Cq_ k nb X S → oy_ Z m k = ob_ (up_ S 1 k 1) m k := by
      intro S hC
      obtain ⟨-, s2, s3, s9, -⟩ := Cq_lc hC m (by omega)
      rw [R_ob (hZ S hC) (by omega) (by rw [s9]; omega)]
      exact ob_eb (s3 m (by omega)) (by rw [s2 19 (by decide) (by decide)])
    have hnh := nh_bound (up_ S0 1 k 1) k m
    refine sM_cancel_37 hG ⟨fun h => by omega, fun h => ⟨⟨⟨_, hR, l1.1⟩, by omega, h, h0.2.2.1.1, by rw [z1]; exact h0.2.2.1.2.1⟩, ?_⟩⟩
    rintro z1 Y1 ⟨rfl, rfl⟩
    refine ⟨fun hlt => ⟨by omega, ?_⟩, fun hge => ⟨by omega, by omega, by omega, by omega, ?_⟩⟩
    · have hno : ¬ 0 ≤ ob_ (up_ S0 1 k 1) m k := by rw [← hob S0 h0]; omega
      have q := ih (m + 1) Y1 (by omega) (fun S hC => ?_)
      · have e1 : hm_ (up_ S0 1 k 1) k (m + 1) = hm_ (up_ S0 1 k 1) k m := by
          show (if 0 ≤ ob_ (up_ S0 1 k 1) m k then _ else _) = _
          rw [if_neg hno]
        have e2 : nh_ (up_ S0 1 k 1) k (m + 1) = nh_ (up_ S0 1 k 1) k m := by
          show nh_ (up_ S0 1 k 1) k m + (if 0 ≤ ob_ (up_ S0 1 k 1) m k then 1 else 0) = _
          rw [if_neg hno]
          omega
        rw [e1, e2] at q
        push_cast at q
        exact q
      · show R_ (if 0 ≤ ob_ (up_ S 1 k 1) m k then _ else _) Y1
        rw [if_neg (by rw [← hob S hC]; omega)]
        exact hZ S hC
    · have hyes : 0 ≤ ob_ (up_ S0 1 k 1) m k := by rw [← hob S0 h0]; exact hge
      have q := ih (m + 1) (up_ Y1 15 m (oy_ Y1 m k)) (by omega) (fun S hC => ?_)
      · have e1 : hm_ (up_ S0 1 k 1) k (m + 1) = zOr (hm_ (up_ S0 1 k 1) k m) (zShl 1 m) := by
          show (if 0 ≤ ob_ (up_ S0 1 k 1) m k then _ else _) = _
          rw [if_pos hyes]
        have e2 : nh_ (up_ S0 1 k 1) k (m + 1) = nh_ (up_ S0 1 k 1) k m + 1 := by
          show nh_ (up_ S0 1 k 1) k m + (if 0 ≤ ob_ (up_ S0 1 k 1) m k then 1 else 0) = _
          rw [if_pos hyes]
        rw [e1, e2] at q
        push_cast at q
        exact q
      · have ho := hob S hC
        have hge' : 0 ≤ ob_ (up_ S 1 k 1) m k := by rw [← ho]; exact hge
        show R_ (if 0 ≤ ob_ (up_ S 1 k 1) m k then ls_ (lc_ (up_ S 1 k 1) k m) m (ob_ (up_ S 1 k 1) m k) else _) _
        rw [if_pos hge', ← ho]
        refine R_ls (hZ S hC) ?_
        obtain ⟨-, -, s3, -, -⟩ := Cq_lc hC m (by omega)
        rw [(s3 m (by omega)).2.2.2.2.1]
        rcases ob_cases (up_ S 1 k 1) m k with ⟨q, -⟩ | ⟨q, -⟩
        · omega
        · have := q.2.1
          omega
theorem vM_cancel {k : Int} {X : St_} (r1 : zR k) (hX : rgX_ X) (hp : pM_cancel k X) {G : Nat → Lo_ → List Vl_ → St_ → Prop} (hG : Clo_ mM_cancel (qM_cancel k X) G) : G 0 [some (.inr 27), some (.inl k)] [] X := by
  obtain ⟨S0, hR0, hI0⟩ := hp
  have hn1 := hI0.1.1.1.2.1
  have h9 := hI0.1.1.2.2.1
  have e0 : ∀ S, R_ S X → S 0 0 = X 1 0 := fun S h => h.1.2.1.symm
  have e1 : ∀ S, R_ S X → S 1 k = X 8 k := fun S h => by rw [h.2.1.2.2.2.2.2.2]
  have e9 : ∀ S, R_ S X → S 9 0 = X 9 0 := fun S h => h.1.2.2.symm
  have q0 := e0 S0 hR0
  have q9 := e9 S0 hR0
  have bad : ¬ (0 ≤ k ∧ k < X 1 0 ∧ X 8 k = 0) → qM_cancel k X (-1) X := fun hno S hR _ => ⟨S, Or.inr ⟨by rw [e0 S hR, e1 S hR]; exact hno, rfl, rfl⟩, hR⟩
  refine sM_cancel_0 hG ⟨fun h => bad (fun q => by omega), fun hk0 => ⟨fun h => bad (fun q => by omega), fun hk1 => ⟨hk0, by omega, fun hc => ⟨hk0, by omega, Or.inr rfl, ?_⟩, fun hc => bad (fun q => hc q.2.2)⟩⟩⟩
  have hall : ∀ S, R_ S X → IV_ S (fun _ => False) → Cq_ k (X 9 0).toNat X S := fun S hR hI => ⟨hR, hI, ⟨hk0, by rw [e0 S hR]; exact hk1, by rw [e1 S hR]; exact hc⟩, by rw [e9 S hR]; omega, by omega⟩
  exact lM_cancel37 (hall S0 hR0 hI0) hG hall (X 9 0).toNat 0 (up_ X 8 k 1) (by omega) (fun S hC => R_up1 hC.1 k 1)
theorem ckM_cancel : ∀ q ∈ mM_cancel.2.1, Ck_ 1 RX1 LM 6 q.1 q.2 := List.forall_mem_cons.mpr ⟨⟨yX1_hitAt, cX1_hitAt, 4, 1, okM_hitAt, by decide, by decide, by decide +kernel, rfl, ⟨by decide, by decide⟩, lw_V q402 q404 qs29 q34 q405⟩, List.forall_mem_cons.mpr ⟨⟨yX1_plan, cX1_plan, 4, 4, okM_plan, by decide, by decide, by decide +kernel, rfl, ⟨by decide, by decide⟩, lw_V q358 q360 qs19 q34 q361⟩, List.forall_mem_cons.mpr ⟨⟨yX1_retry, cX1_retry, 2, 5, okM_retry, by decide, by decide, by decide +kernel, rfl, ⟨by decide, by decide⟩, lw_V q354 q356 qs18 q34 q357⟩, fun _ h => absurd h List.not_mem_nil⟩⟩⟩
theorem okM_cancel : Cn_ 1 LM yX1_cancel cX1_cancel 6 6 csM_cancel := by
  refine Cn_of mM_cancel KlM hfM (by decide +kernel) rfl rfl rfl hM_cancel ckM_cancel (Or.inl (by decide)) ?_
  intro as X hl hr hX hp G hG
  match as, hl with
  | [a], _ => exact vM_cancel (hr _ (by simp)) hX hp hG
theorem up14_J2 {X : St_} (hJ : J_ X) (b v : Int) : J_ (up_ X 14 b v) := by
  obtain ⟨⟨hn, hca, h9, h19, hbs⟩, hBZ, hDJ⟩ := hJ
  have e : ∀ f, f ≠ 14 → up_ X 14 b v f = X f := fun f h => by funext j; exact up_ne _ _ _ _ h
  refine ⟨⟨nOK_eb (up14_eb X b v 0).1 hn, ?_, ?_, ?_, ?_⟩, ?_, ?_⟩
  · rw [e 1 (by decide)]; exact hca
  · rw [e 9 (by decide)]; exact h9
  · rw [e 19 (by decide)]; exact h19
  · rw [e 9 (by decide)]
    intro c h0 h1
    exact eb_bOK (up14_eb X b v c) (hbs c h0 h1)
  · intro k t a1 a2 a3 a4
    rw [oc_congr (X := X) (fun f hf => e f (by omega)), e 8 (by decide)]
    exact hBZ k t a1 a2 a3 a4
  · exact DJ_congr (fun f hf => e f (by omega)) hDJ
theorem pl_14 (S : St_) (b v : Int) : pl_ (up_ S 14 b v) b = pl_ S b := by
  have e : ∀ f, f ≠ 14 → up_ S 14 b v f = S f := fun f hf => by funext j; exact up_ne _ _ _ _ hf
  have hnt : nt_ (up_ S 14 b v) = nt_ S := nt_up _ _ _ (by decide)
  have hln : ln_ (up_ S 14 b v) b = ln_ S b := by unfold ln_; rw [e 16 (by decide), e 10 (by decide), e 3 (by decide), e 17 (by decide)]
  have hcb : ∀ i, cb_ (up_ S 14 b v) b i = cb_ S b i := fun i => by unfold cb_; rw [tk_nt hnt, e 18 (by decide), e 17 (by decide), e 12 (by decide), e 7 (by decide)]
  have hrd : rd_ (up_ S 14 b v) b = rd_ S b := by unfold rd_; rw [hcb, e 16 (by decide), e 19 (by decide)]
  unfold pl_
  rw [hln, hrd, e 12 (by decide), e 11 (by decide), e 13 (by decide), bf_nt hnt]
  simp only [up_up, bg_nt hnt]
theorem pn_14 {S : St_} {b : Int} (v : Int) (h : pn_ S b) : pn_ (up_ S 14 b v) b := by
  have e : ∀ f, f ≠ 14 → up_ S 14 b v f = S f := fun f hf => by funext j; exact up_ne _ _ _ _ hf
  have hln : ln_ (up_ S 14 b v) b = ln_ S b := by unfold ln_; rw [e 16 (by decide), e 10 (by decide), e 3 (by decide), e 17 (by decide)]
  unfold pn_ cc_ at *
  rw [hln, e 11 (by decide), e 16 (by decide), e 1 (by decide)]
  exact h
theorem R_sd {S Y : St_} (h : R_ S Y) (h9 : 0 ≤ S 9 0) (e size lim : Int) : R_ (up_ (sd_ S e size lim) 14 (S 9 0) (1 - Y 14 (S 9 0))) (up_ (up_ (up_ (up_ (up_ (up_ Y 10 (Y 9 0) (e / 6)) 11 (Y 9 0) (e % 6)) 12 (Y 9 0) size) 13 (Y 9 0) lim) 15 (Y 9 0) 0) 9 0 (Y 9 0 + 1)) := by
  obtain ⟨⟨a1, a2, a3⟩, ⟨b1, b2, b3, b4, b5, b6, b7⟩, ⟨c1, c2, c3, c4, c5⟩, d, f⟩ := h
  have eT : ∀ g, g ≤ 8 ∨ g = 15 ∨ 17 ≤ g → up_ (sd_ S e size lim) 14 (S 9 0) (1 - Y 14 (S 9 0)) g = S g := by
    intro g hg
    rw [← sd_ne S e size lim (f := g) (by omega)]
    funext j
    exact up_ne _ _ _ _ (by omega)
  have eU : ∀ g, g ≠ 14 → up_ (sd_ S e size lim) 14 (S 9 0) (1 - Y 14 (S 9 0)) g = sd_ S e size lim g := fun g hg => by funext j; exact up_ne _ _ _ _ hg
  have eY : ∀ g, g ≤ 8 ∨ g = 14 ∨ 16 ≤ g → up_ (up_ (up_ (up_ (up_ (up_ Y 10 (Y 9 0) (e / 6)) 11 (Y 9 0) (e % 6)) 12 (Y 9 0) size) 13 (Y 9 0) lim) 15 (Y 9 0) 0) 9 0 (Y 9 0 + 1) g = Y g := by
    intro g hg
    funext j
    rw [up_ne _ _ _ _ (by omega), up_ne _ _ _ _ (by omega), up_ne _ _ _ _ (by omega), up_ne _ _ _ _ (by omega), up_ne _ _ _ _ (by omega), up_ne _ _ _ _ (by omega)]
  refine ⟨⟨?_, ?_, ?_⟩, ⟨?_, ?_, ?_, ?_, ?_, ?_, ?_⟩, ⟨?_, ?_, ?_, ?_, ?_⟩, fun b h0 h1 => ?_, fun b i hb => ?_⟩
  · rw [eT 19 (by decide), eY 0 (by decide)]; exact a1
  · rw [eT 0 (by decide), eY 1 (by decide)]; exact a2
  · rw [up_at, eU 9 (by decide), sd_9, a3]
  · rw [eT 2 (by decide), eY 2 (by decide)]; exact b1
  · rw [eT 3 (by decide), eY 3 (by decide)]; exact b2
  · rw [eT 4 (by decide), eY 4 (by decide)]; exact b3
  · rw [eT 5 (by decide), eY 5 (by decide)]; exact b4
  · rw [eT 6 (by decide), eY 6 (by decide)]; exact b5
  · rw [eT 7 (by decide), eY 7 (by decide)]; exact b6
  · rw [eT 1 (by decide), eY 8 (by decide)]; exact b7
  · funext j; unfold sd_; simp [up_, c1, a3]
  · funext j; unfold sd_; simp [up_, c2, a3]
  · funext j; unfold sd_; simp [up_, c3, a3]
  · funext j; unfold sd_; simp [up_, c4, a3]
  · funext j; unfold sd_; simp [up_, c5, a3]
  · rw [eU 9 (by decide), sd_9] at h1
    rw [eY 14 (by decide)]
    by_cases eb : b = S 9 0
    · rw [eb, up_at]
      omega
    · rw [up_nei _ _ _ _ eb, sd_ne S e size lim (f := 14) (by decide)]
      exact d b h0 (by omega)
  · unfold bk_ at hb
    rw [eU 9 (by decide), sd_9, eU 16 (by decide)] at hb
    rw [eY 16 (by decide), eY 17 (by decide), eT 17 (by decide), eT 18 (by decide)]
    by_cases eb : b = S 9 0
    · rw [eb, (sd_new S e size lim).2.2.2.2] at hb
      omega
    · rw [sd_nei S e size lim (by decide) eb] at hb
      exact f b i ⟨hb.1, by omega, hb.2.2.1, hb.2.2.2⟩
def pM_send (e size lim : Int) (X : St_) : Prop := Mi_ X
def qM_send (e size lim : Int) (X : St_) (z : Int) (Y : St_) : Prop := ∀ S, R_ S X → IV_ S (fun _ => False) → ∃ T, Sd_ S e size lim z T ∧ R_ T Y
def csM_send : Cs_ := (3, false, 1, (fun as X => match as with
  | [a, b, c] => pM_send a b c X
  | _ => False), (fun as X z Y => match as with
  | [a, b, c] => qM_send a b c X z Y
  | _ => False))
def mM_send : Mt_ := (LM, [(131, csM_badEnds), (141, csM_badSize), (127, csM_plan)], 1, EM_send)
set_option maxRecDepth 100000 in
theorem sM_send_0 {Rt : Int → St_ → Prop} {G : Nat → Lo_ → List Vl_ → St_ → Prop} (hG : Clo_ mM_send Rt G) {X : St_} {e size lim : Int} (h : pM_badEnds e X ∧ (∀ (z1 : Int) (Y1 : St_), qM_badEnds e X z1 Y1 → (¬ z1 = 0 → Rt (-1) Y1) ∧ (z1 = 0 → pM_badSize size Y1 ∧ (∀ (z2 : Int) (Y2 : St_), qM_badSize size Y1 z2 Y2 → (z2 = 0 → (¬ Y2 9 0 = 10 → 0 ≤ e ∧ 0 < (6 : Int) ∧ 0 ≤ Y2 9 0 ∧ Y2 9 0 < 10 ∧ 0 ≤ e ∧ 0 < (6 : Int) ∧ 0 ≤ Y2 9 0 ∧ Y2 9 0 < 10 ∧ 0 ≤ Y2 9 0 ∧ Y2 9 0 < 10 ∧ 0 ≤ Y2 9 0 ∧ Y2 9 0 < 10 ∧ 0 ≤ Y2 9 0 ∧ Y2 9 0 < 10 ∧ zR ((Y2 9 0) + 1) ∧ pM_plan (Y2 9 0) (up_ (up_ (up_ (up_ (up_ (up_ Y2 10 (Y2 9 0) (e / 6)) 11 (Y2 9 0) (e % 6)) 12 (Y2 9 0) size) 13 (Y2 9 0) lim) 15 (Y2 9 0) 0) 9 0 ((Y2 9 0) + 1)) ∧ (∀ (z3 : Int) (Y3 : St_), qM_plan (Y2 9 0) (up_ (up_ (up_ (up_ (up_ (up_ Y2 10 (Y2 9 0) (e / 6)) 11 (Y2 9 0) (e % 6)) 12 (Y2 9 0) size) 13 (Y2 9 0) lim) 15 (Y2 9 0) 0) 9 0 ((Y2 9 0) + 1)) z3 Y3 → Rt (Y2 9 0) Y3)) ∧ (Y2 9 0 = 10 → Rt (-3) Y2)) ∧ (¬ z2 = 0 → Rt (-1) Y2))))) : G 0 [some (.inr 27), some (.inl e), some (.inl size), some (.inl lim)] [] X := run_ hG [] 55 0 _ _ X h
theorem vM_send {e size lim : Int} {X : St_} (r1 : zR e) (r2 : zR size) (r3 : zR lim) (hX : rgX_ X) (hp : pM_send e size lim X) {G : Nat → Lo_ → List Vl_ → St_ → Prop} (hG : Clo_ mM_send (qM_send e size lim X) G) : G 0 [some (.inr 27), some (.inl e), some (.inl size), some (.inl lim)] [] X := by
  obtain ⟨S0, hR0, hI0⟩ := hp
  have h9 := hI0.1.1.2.2.1
  rw [← hR0.1.2.2] at h9
  have bad : ¬ sdOK_ e size → qM_send e size lim X (-1) X := fun hno S hR _ => ⟨S, Or.inr (Or.inr ⟨hno, rfl, rfl⟩), hR⟩
  refine sM_send_0 hG ⟨trivial, ?_⟩
  rintro z1 Y1 ⟨rfl, hz1, hi1⟩
  refine ⟨fun h => bad (fun q => h (hi1.mpr q.1)), fun h => ⟨trivial, ?_⟩⟩
  have k1 := hi1.mp h
  rintro z2 Y2 ⟨rfl, hz2, hi2⟩
  refine ⟨fun h => ?_, fun h => bad (fun q => h (hi2.mpr q.2))⟩
  have k2 := hi2.mp h
  have hOK : sdOK_ e size := ⟨k1, k2⟩
  refine ⟨fun hne => ⟨by omega, by omega, by omega, by omega, by omega, by omega, by omega, by omega, by omega, by omega, by omega, by omega, by omega, by omega, by omega, ?_, ?_⟩, fun he S hR _ => ⟨S, Or.inr (Or.inl ⟨hOK, by rw [← hR.1.2.2]; omega, rfl, rfl⟩), hR⟩⟩
  · have e9 : Y2 9 0 = S0 9 0 := hR0.1.2.2
    obtain ⟨i1, i2⟩ := sd_IV hI0 (lim := lim) (by rw [← e9]; omega) k1 k2
    refine ⟨_, R_sd hR0 (by rw [← e9]; omega) e size lim, up14_J2 i1.1 _ _, h9.1, ?_, ?_⟩
    · rw [up_ne _ _ _ _ (by decide), sd_9, e9]
      omega
    · rw [e9]
      exact pn_14 _ i2
  · intro z3 Y3 hq S hR hI
    have e9 : Y2 9 0 = S 9 0 := hR.1.2.2
    obtain ⟨i1, i2⟩ := sd_IV hI (lim := lim) (by rw [← e9]; omega) k1 k2
    have hr := hq _ (R_sd hR (by rw [← e9]; omega) e size lim) (up14_J2 i1.1 _ _)
    rw [e9, pl_14] at hr
    exact ⟨_, Or.inl ⟨hOK, by rw [← e9]; omega, e9, rfl⟩, hr⟩
theorem ckM_send : ∀ q ∈ mM_send.2.1, Ck_ 1 RX1 LM 5 q.1 q.2 := List.forall_mem_cons.mpr ⟨⟨yX1_badEnds, cX1_badEnds, 2, 0, okM_badEnds, by decide, by decide, by decide +kernel, rfl, ⟨by decide, by decide⟩, lw_V q350 q352 qs17 q34 q353⟩, List.forall_mem_cons.mpr ⟨⟨yX1_badSize, cX1_badSize, 2, 0, okM_badSize, by decide, by decide, by decide +kernel, rfl, ⟨by decide, by decide⟩, lw_V q414 q416 qs30 q34 q417⟩, List.forall_mem_cons.mpr ⟨⟨yX1_plan, cX1_plan, 4, 4, okM_plan, by decide, by decide, by decide +kernel, rfl, ⟨by decide, by decide⟩, lw_V q358 q360 qs19 q34 q361⟩, fun _ h => absurd h List.not_mem_nil⟩⟩⟩
theorem okM_send : Cn_ 1 LM yX1_send cX1_send 5 5 csM_send := by
  refine Cn_of mM_send KlM hfM (by decide +kernel) rfl rfl rfl hM_send ckM_send (Or.inl (by decide)) ?_
  intro as X hl hr hX hp G hG
  match as, hl with
  | [a, b, c], _ => exact vM_send (hr _ (by simp)) (hr _ (by simp)) (hr _ (by simp)) hX hp hG
theorem R_ps {S Y : St_} (h : R_ S Y) (n : Int) : R_ (up_ S 19 0 n) (up_ Y 0 0 n) := by
  have e : ∀ f, f ≠ 19 → up_ S 19 0 n f = S f := fun f hf => by funext j; exact up_ne _ _ _ _ hf
  have e' : ∀ f, f ≠ 0 → up_ Y 0 0 n f = Y f := fun f hf => by funext j; exact up_ne _ _ _ _ hf
  obtain ⟨r1, r2, r3, r4, r5⟩ := h
  unfold R_ bk_
  rw [up_at, up_at, e 0 (by decide), e 1 (by decide), e 2 (by decide), e 3 (by decide), e 4 (by decide), e 5 (by decide), e 6 (by decide), e 7 (by decide), e 9 (by decide), e 10 (by decide), e 11 (by decide), e 12 (by decide), e 13 (by decide), e 14 (by decide), e 16 (by decide), e 17 (by decide), e 18 (by decide), e' 1 (by decide), e' 2 (by decide), e' 3 (by decide), e' 4 (by decide), e' 5 (by decide), e' 6 (by decide), e' 7 (by decide), e' 8 (by decide), e' 9 (by decide), e' 10 (by decide), e' 11 (by decide), e' 12 (by decide), e' 13 (by decide), e' 14 (by decide), e' 15 (by decide), e' 16 (by decide), e' 17 (by decide)]
  exact ⟨⟨rfl, r1.2⟩, r2, r3, r4, r5⟩
def pM_pass (n : Int) (X : St_) : Prop := 0 ≤ X 0 0 ∧ X 0 0 ≤ 19800
def qM_pass (n : Int) (X : St_) (z : Int) (Y : St_) : Prop := ∀ S, R_ S X → ∃ T, Ps_ S n z T ∧ R_ T Y
def csM_pass : Cs_ := (1, false, 1, (fun as X => match as with
  | [a] => pM_pass a X
  | _ => False), (fun as X z Y => match as with
  | [a] => qM_pass a X z Y
  | _ => False))
def mM_pass : Mt_ := (LM, [], 1, EM_pass)
set_option maxRecDepth 100000 in
theorem sM_pass_0 {Rt : Int → St_ → Prop} {G : Nat → Lo_ → List Vl_ → St_ → Prop} (hG : Clo_ mM_pass Rt G) {X : St_} {n : Int} (h : (n < 0 → Rt (-1) X) ∧ (0 ≤ n → (n ≤ 200 → zR ((X 0 0) + n) ∧ Rt ((up_ X 0 0 ((X 0 0) + n)) 0 0) (up_ X 0 0 ((X 0 0) + n))) ∧ (200 < n → Rt (-1) X))) : G 0 [some (.inr 27), some (.inl n)] [] X := run_ hG [] 14 0 _ _ X h
theorem vM_pass {n : Int} {X : St_} (r1 : zR n) (hX : rgX_ X) (hp : pM_pass n X) {G : Nat → Lo_ → List Vl_ → St_ → Prop} (hG : Clo_ mM_pass (qM_pass n X) G) : G 0 [some (.inr 27), some (.inl n)] [] X := by
  obtain ⟨h1, h2⟩ := hp
  have bad : ¬ (0 ≤ n ∧ n ≤ 200) → qM_pass n X (-1) X := fun hno S hR => ⟨S, Or.inr ⟨hno, rfl, rfl⟩, hR⟩
  refine sM_pass_0 hG ⟨fun h => bad (by omega), fun h => ⟨fun h3 => ⟨by omega, fun S hR => ?_⟩, fun h3 => bad (by omega)⟩⟩
  refine ⟨_, Or.inl ⟨h, h3, by rw [up_at, hR.1.1], rfl⟩, ?_⟩
  rw [hR.1.1]
  exact R_ps hR _
theorem ckM_pass : ∀ q ∈ mM_pass.2.1, Ck_ 1 RX1 LM 0 q.1 q.2 := fun _ h => absurd h List.not_mem_nil
theorem okM_pass : Cn_ 1 LM yX1_pass cX1_pass 2 0 csM_pass := by
  refine Cn_of mM_pass KlM hfM (by decide +kernel) rfl rfl rfl hM_pass ckM_pass (Or.inl (by decide)) ?_
  intro as X hl hr hX hp G hG
  match as, hl with
  | [a], _ => exact vM_pass (hr _ (by simp)) hX hp hG
def pM_time (_ : St_) : Prop := True
def qM_time (X : St_) (z : Int) (Y : St_) : Prop := Y = X ∧ ∀ S, R_ S X → z = S 19 0
def csM_time : Cs_ := (0, false, 1, (fun as X => match as with
  | [] => pM_time  X
  | _ => False), (fun as X z Y => match as with
  | [] => qM_time  X z Y
  | _ => False))
def mM_time : Mt_ := (LM, [], 1, EM_time)
set_option maxRecDepth 100000 in
theorem sM_time_0 {Rt : Int → St_ → Prop} {G : Nat → Lo_ → List Vl_ → St_ → Prop} (hG : Clo_ mM_time Rt G) {X : St_} (h : Rt (X 0 0) X) : G 0 [some (.inr 27)] [] X := run_ hG [] 3 0 _ _ X h
theorem vM_time {X : St_}  (hX : rgX_ X) (hp : pM_time  X) {G : Nat → Lo_ → List Vl_ → St_ → Prop} (hG : Clo_ mM_time (qM_time  X) G) : G 0 [some (.inr 27)] [] X := by
  exact sM_time_0 hG ⟨rfl, fun S hR => hR.1.1⟩
theorem ckM_time : ∀ q ∈ mM_time.2.1, Ck_ 1 RX1 LM 0 q.1 q.2 := fun _ h => absurd h List.not_mem_nil
theorem okM_time : Cn_ 1 LM yX1_time cX1_time 1 0 csM_time := by
  refine Cn_of mM_time KlM hfM (by decide +kernel) rfl rfl rfl hM_time ckM_time (Or.inl (by decide)) ?_
  intro as X hl hr hX hp G hG
  match as, hl with
  | [], _ => exact vM_time  hX hp hG
end
section
/-! THE MODEL's QUERIES: state, arrival, hops, hop, place, booked -/
theorem R_stk {S Y : St_} (hR : R_ S Y) (hI : IV_ S (fun _ => False)) {b : Int} (h0 : 0 ≤ b) (h1 : b < S 9 0) : (Y 14 b = 0 ∧ S 14 b = 1 ∧ 0 < S 16 b) ∨ (Y 14 b = 1 ∧ S 14 b = 0) := by
  have h := hR.2.2.2.1 b h0 h1
  rcases hI.2 b h0 h1 with ⟨q, -⟩ | ⟨-, q⟩
  · exact q.elim
  · rcases q with q | q
    · have := q.1
      exact Or.inl ⟨by omega, q.1, q.2.2.1⟩
    · have := q.1
      exact Or.inr ⟨by omega, q.1⟩
def pM_state (b : Int) (X : St_) : Prop := Mi_ X
def qM_state (b : Int) (X : St_) (z : Int) (Y : St_) : Prop := Y = X ∧ ∀ S, R_ S X → IV_ S (fun _ => False) → z = aSt_ S b
def csM_state : Cs_ := (1, false, 1, (fun as X => match as with
  | [a] => pM_state a X
  | _ => False), (fun as X z Y => match as with
  | [a] => qM_state a X z Y
  | _ => False))
def mM_state : Mt_ := (LM, [(144, csM_badBundle), (113, csM_lastTime)], 1, EM_state)
set_option maxRecDepth 100000 in
theorem sM_state_0 {Rt : Int → St_ → Prop} {G : Nat → Lo_ → List Vl_ → St_ → Prop} (hG : Clo_ mM_state Rt G) {X : St_} {b : Int} (h : pM_badBundle b X ∧ (∀ (z1 : Int) (Y1 : St_), qM_badBundle b X z1 Y1 → (z1 = 0 → 0 ≤ b ∧ b < 10 ∧ (Y1 14 b = 0 → pM_lastTime b Y1 ∧ (∀ (z2 : Int) (Y2 : St_), qM_lastTime b Y1 z2 Y2 → (Y2 0 0 < z2 → Rt 1 Y2) ∧ (z2 ≤ Y2 0 0 → Rt 2 Y2))) ∧ (¬ Y1 14 b = 0 → Rt 0 Y1)) ∧ (¬ z1 = 0 → Rt (-1) Y1))) : G 0 [some (.inr 27), some (.inl b)] [] X := run_ hG [] 18 0 _ _ X h
theorem vM_state {b : Int} {X : St_} (r1 : zR b) (hX : rgX_ X) (hp : pM_state b X) {G : Nat → Lo_ → List Vl_ → St_ → Prop} (hG : Clo_ mM_state (qM_state b X) G) : G 0 [some (.inr 27), some (.inl b)] [] X := by
  obtain ⟨S0, hR0, hI0⟩ := hp
  have h9 := hI0.1.1.2.2.1
  rw [← hR0.1.2.2] at h9
  refine sM_state_0 hG ⟨trivial, ?_⟩
  rintro z1 Y1 ⟨rfl, hz1, hi1⟩
  refine ⟨fun h => ?_, fun h => ⟨rfl, fun S hR hI => ?_⟩⟩
  · have k1 := hi1.mp h
    refine ⟨k1.1, by omega, fun h14 => ⟨⟨⟨S0, hR0, hI0.1⟩, k1.1, k1.2⟩, ?_⟩, fun h14 => ⟨rfl, fun S hR hI => ?_⟩⟩
    · rintro z2 Y2 ⟨rfl, hz2⟩
      have key : ∀ S, R_ S Y2 → IV_ S (fun _ => False) → z2 = cb_ S b (S 16 b - 1) ∧ aSt_ S b = if cb_ S b (S 16 b - 1) ≤ S 19 0 then 2 else 1 := by
        intro S hR hI
        have kS : 0 ≤ b ∧ b < S 9 0 := by rw [← hR.1.2.2]; exact k1
        rcases R_stk hR hI kS.1 kS.2 with ⟨-, q2, q3⟩ | ⟨q1, -⟩
        · refine ⟨by rw [hz2 S hR hI.1, if_neg (by omega)], ?_⟩
          unfold aSt_
          rw [if_pos kS, if_neg (by omega)]
        · omega
      refine ⟨fun hlt => ⟨rfl, fun S hR hI => ?_⟩, fun hle => ⟨rfl, fun S hR hI => ?_⟩⟩
      · obtain ⟨q1, q2⟩ := key S hR hI
        have := hR.1.1
        rw [q2, if_neg (by omega)]
      · obtain ⟨q1, q2⟩ := key S hR hI
        have := hR.1.1
        rw [q2, if_pos (by omega)]
    · have kS : 0 ≤ b ∧ b < S 9 0 := by rw [← hR.1.2.2]; exact k1
      rcases R_stk hR hI kS.1 kS.2 with ⟨q1, -⟩ | ⟨-, q2⟩
      · exact absurd q1 h14
      · unfold aSt_
        rw [if_pos kS, if_pos q2]
  · unfold aSt_
    rw [if_neg (fun q => h (hi1.mpr (by rw [hR.1.2.2]; exact q)))]
theorem ckM_state : ∀ q ∈ mM_state.2.1, Ck_ 1 RX1 LM 3 q.1 q.2 := List.forall_mem_cons.mpr ⟨⟨yX1_badBundle, cX1_badBundle, 2, 0, okM_badBundle, by decide, by decide, by decide +kernel, rfl, ⟨by decide, by decide⟩, lw_V q430 q432 qs31 q34 q433⟩, List.forall_mem_cons.mpr ⟨⟨yX1_lastTime, cX1_lastTime, 3, 2, okM_lastTime, by decide, by decide, by decide +kernel, rfl, ⟨by decide, by decide⟩, lw_V q362 q364 qs20 q34 q365⟩, fun _ h => absurd h List.not_mem_nil⟩⟩
theorem okM_state : Cn_ 1 LM yX1_state cX1_state 2 3 csM_state := by
  refine Cn_of mM_state KlM hfM (by decide +kernel) rfl rfl rfl hM_state ckM_state (Or.inl (by decide)) ?_
  intro as X hl hr hX hp G hG
  match as, hl with
  | [a], _ => exact vM_state (hr _ (by simp)) hX hp hG
def pM_arrival (b : Int) (X : St_) : Prop := Mi_ X
def qM_arrival (b : Int) (X : St_) (z : Int) (Y : St_) : Prop := Y = X ∧ ∀ S, R_ S X → IV_ S (fun _ => False) → z = aAr_ S b
def csM_arrival : Cs_ := (1, false, 1, (fun as X => match as with
  | [a] => pM_arrival a X
  | _ => False), (fun as X z Y => match as with
  | [a] => qM_arrival a X z Y
  | _ => False))
def mM_arrival : Mt_ := (LM, [(144, csM_badBundle), (113, csM_lastTime)], 1, EM_arrival)
set_option maxRecDepth 100000 in
theorem sM_arrival_0 {Rt : Int → St_ → Prop} {G : Nat → Lo_ → List Vl_ → St_ → Prop} (hG : Clo_ mM_arrival Rt G) {X : St_} {b : Int} (h : pM_badBundle b X ∧ (∀ (z1 : Int) (Y1 : St_), qM_badBundle b X z1 Y1 → (z1 = 0 → 0 ≤ b ∧ b < 10 ∧ (Y1 14 b = 0 → pM_lastTime b Y1 ∧ (∀ (z2 : Int) (Y2 : St_), qM_lastTime b Y1 z2 Y2 → Rt z2 Y2)) ∧ (¬ Y1 14 b = 0 → Rt (-2) Y1)) ∧ (¬ z1 = 0 → Rt (-1) Y1))) : G 0 [some (.inr 27), some (.inl b)] [] X := run_ hG [] 13 0 _ _ X h
theorem vM_arrival {b : Int} {X : St_} (r1 : zR b) (hX : rgX_ X) (hp : pM_arrival b X) {G : Nat → Lo_ → List Vl_ → St_ → Prop} (hG : Clo_ mM_arrival (qM_arrival b X) G) : G 0 [some (.inr 27), some (.inl b)] [] X := by
  obtain ⟨S0, hR0, hI0⟩ := hp
  have h9 := hI0.1.1.2.2.1
  rw [← hR0.1.2.2] at h9
  refine sM_arrival_0 hG ⟨trivial, ?_⟩
  rintro z1 Y1 ⟨rfl, hz1, hi1⟩
  refine ⟨fun h => ?_, fun h => ⟨rfl, fun S hR hI => ?_⟩⟩
  · have k1 := hi1.mp h
    refine ⟨k1.1, by omega, fun h14 => ⟨⟨⟨S0, hR0, hI0.1⟩, k1.1, k1.2⟩, ?_⟩, fun h14 => ⟨rfl, fun S hR hI => ?_⟩⟩
    · rintro z2 Y2 ⟨rfl, hz2⟩
      refine ⟨rfl, fun S hR hI => ?_⟩
      have kS : 0 ≤ b ∧ b < S 9 0 := by rw [← hR.1.2.2]; exact k1
      rcases R_stk hR hI kS.1 kS.2 with ⟨-, q2, q3⟩ | ⟨q1, -⟩
      · unfold aAr_
        rw [hz2 S hR hI.1, if_neg (by omega), if_pos kS, if_neg (by omega)]
      · omega
    · have kS : 0 ≤ b ∧ b < S 9 0 := by rw [← hR.1.2.2]; exact k1
      rcases R_stk hR hI kS.1 kS.2 with ⟨q1, -⟩ | ⟨-, q2⟩
      · exact absurd q1 h14
      · unfold aAr_
        rw [if_pos kS, if_pos q2]
  · unfold aAr_
    rw [if_neg (fun q => h (hi1.mpr (by rw [hR.1.2.2]; exact q)))]
theorem ckM_arrival : ∀ q ∈ mM_arrival.2.1, Ck_ 1 RX1 LM 3 q.1 q.2 := List.forall_mem_cons.mpr ⟨⟨yX1_badBundle, cX1_badBundle, 2, 0, okM_badBundle, by decide, by decide, by decide +kernel, rfl, ⟨by decide, by decide⟩, lw_V q430 q432 qs31 q34 q433⟩, List.forall_mem_cons.mpr ⟨⟨yX1_lastTime, cX1_lastTime, 3, 2, okM_lastTime, by decide, by decide, by decide +kernel, rfl, ⟨by decide, by decide⟩, lw_V q362 q364 qs20 q34 q365⟩, fun _ h => absurd h List.not_mem_nil⟩⟩
theorem okM_arrival : Cn_ 1 LM yX1_arrival cX1_arrival 2 3 csM_arrival := by
  refine Cn_of mM_arrival KlM hfM (by decide +kernel) rfl rfl rfl hM_arrival ckM_arrival (Or.inl (by decide)) ?_
  intro as X hl hr hX hp G hG
  match as, hl with
  | [a], _ => exact vM_arrival (hr _ (by simp)) hX hp hG
def pM_hops (b : Int) (X : St_) : Prop := Mi_ X
def qM_hops (b : Int) (X : St_) (z : Int) (Y : St_) : Prop := Y = X ∧ ∀ S, R_ S X → IV_ S (fun _ => False) → z = aHs_ S b
def csM_hops : Cs_ := (1, false, 1, (fun as X => match as with
  | [a] => pM_hops a X
  | _ => False), (fun as X z Y => match as with
  | [a] => qM_hops a X z Y
  | _ => False))
def mM_hops : Mt_ := (LM, [(144, csM_badBundle)], 1, EM_hops)
set_option maxRecDepth 100000 in
theorem sM_hops_0 {Rt : Int → St_ → Prop} {G : Nat → Lo_ → List Vl_ → St_ → Prop} (hG : Clo_ mM_hops Rt G) {X : St_} {b : Int} (h : pM_badBundle b X ∧ (∀ (z1 : Int) (Y1 : St_), qM_badBundle b X z1 Y1 → (z1 = 0 → 0 ≤ b ∧ b < 10 ∧ Rt (Y1 15 b) Y1) ∧ (¬ z1 = 0 → Rt (-1) Y1))) : G 0 [some (.inr 27), some (.inl b)] [] X := run_ hG [] 9 0 _ _ X h
theorem vM_hops {b : Int} {X : St_} (r1 : zR b) (hX : rgX_ X) (hp : pM_hops b X) {G : Nat → Lo_ → List Vl_ → St_ → Prop} (hG : Clo_ mM_hops (qM_hops b X) G) : G 0 [some (.inr 27), some (.inl b)] [] X := by
  obtain ⟨S0, hR0, hI0⟩ := hp
  have h9 := hI0.1.1.2.2.1
  rw [← hR0.1.2.2] at h9
  refine sM_hops_0 hG ⟨trivial, ?_⟩
  rintro z1 Y1 ⟨rfl, hz1, hi1⟩
  refine ⟨fun h => ?_, fun h => ⟨rfl, fun S hR hI => ?_⟩⟩
  · have k1 := hi1.mp h
    refine ⟨k1.1, by omega, rfl, fun S hR hI => ?_⟩
    have kS : 0 ≤ b ∧ b < S 9 0 := by rw [← hR.1.2.2]; exact k1
    unfold aHs_
    rw [if_pos kS, hR.2.2.1.2.2.2.2]
  · unfold aHs_
    rw [if_neg (fun q => h (hi1.mpr (by rw [hR.1.2.2]; exact q)))]
theorem ckM_hops : ∀ q ∈ mM_hops.2.1, Ck_ 1 RX1 LM 1 q.1 q.2 := List.forall_mem_cons.mpr ⟨⟨yX1_badBundle, cX1_badBundle, 2, 0, okM_badBundle, by decide, by decide, by decide +kernel, rfl, ⟨by decide, by decide⟩, lw_V q430 q432 qs31 q34 q433⟩, fun _ h => absurd h List.not_mem_nil⟩
theorem okM_hops : Cn_ 1 LM yX1_hops cX1_hops 2 1 csM_hops := by
  refine Cn_of mM_hops KlM hfM (by decide +kernel) rfl rfl rfl hM_hops ckM_hops (Or.inl (by decide)) ?_
  intro as X hl hr hX hp G hG
  match as, hl with
  | [a], _ => exact vM_hops (hr _ (by simp)) hX hp hG
def pM_hop (b i : Int) (X : St_) : Prop := Mi_ X
def qM_hop (b i : Int) (X : St_) (z : Int) (Y : St_) : Prop := Y = X ∧ ∀ S, R_ S X → IV_ S (fun _ => False) → z = aHp_ S b i
def csM_hop : Cs_ := (2, false, 1, (fun as X => match as with
  | [a, b] => pM_hop a b X
  | _ => False), (fun as X z Y => match as with
  | [a, b] => qM_hop a b X z Y
  | _ => False))
def mM_hop : Mt_ := (LM, [(144, csM_badBundle)], 1, EM_hop)
set_option maxRecDepth 100000 in
theorem sM_hop_0 {Rt : Int → St_ → Prop} {G : Nat → Lo_ → List Vl_ → St_ → Prop} (hG : Clo_ mM_hop Rt G) {X : St_} {b i : Int} (h : pM_badBundle b X ∧ (∀ (z1 : Int) (Y1 : St_), qM_badBundle b X z1 Y1 → (z1 = 0 → (i < 0 → Rt (-2) Y1) ∧ (0 ≤ i → 0 ≤ b ∧ b < 10 ∧ (i < Y1 15 b → zR (64 * b) ∧ zR ((64 * b) + i) ∧ 0 ≤ (64 * b) + i ∧ (64 * b) + i < 640 ∧ zR (1000 * (Y1 16 ((64 * b) + i))) ∧ zR (64 * b) ∧ zR ((64 * b) + i) ∧ 0 ≤ (64 * b) + i ∧ (64 * b) + i < 640 ∧ zR ((1000 * (Y1 16 ((64 * b) + i))) + (Y1 17 ((64 * b) + i))) ∧ Rt ((1000 * (Y1 16 ((64 * b) + i))) + (Y1 17 ((64 * b) + i))) Y1) ∧ (Y1 15 b ≤ i → Rt (-2) Y1))) ∧ (¬ z1 = 0 → Rt (-1) Y1))) : G 0 [some (.inr 27), some (.inl b), some (.inl i)] [] X := run_ hG [] 32 0 _ _ X h
theorem vM_hop {b i : Int} {X : St_} (r1 : zR b) (r2 : zR i) (hX : rgX_ X) (hp : pM_hop b i X) {G : Nat → Lo_ → List Vl_ → St_ → Prop} (hG : Clo_ mM_hop (qM_hop b i X) G) : G 0 [some (.inr 27), some (.inl b), some (.inl i)] [] X := by
  obtain ⟨S0, hR0, hI0⟩ := hp
  have hg := hI0.1.1
  have h9 := hg.2.2.1
  have hn := hg.1.2.1
  rw [← hR0.1.2.2] at h9
  refine sM_hop_0 hG ⟨trivial, ?_⟩
  rintro z1 Y1 ⟨rfl, hz1, hi1⟩
  refine ⟨fun h => ?_, fun h => ⟨rfl, fun S hR hI => ?_⟩⟩
  · have k1 := hi1.mp h
    have out : ¬ (0 ≤ i ∧ i < Y1 15 b) → qM_hop b i Y1 (-2) Y1 := by
      intro hno
      refine ⟨rfl, fun S hR hI => ?_⟩
      have kS : 0 ≤ b ∧ b < S 9 0 := by rw [← hR.1.2.2]; exact k1
      unfold aHp_
      rw [if_pos kS, if_neg (by rw [← hR.2.2.1.2.2.2.2]; exact hno)]
    refine ⟨fun hlt => out (by omega), fun hi0 => ⟨k1.1, by omega, fun hlt => ?_, fun hge => out (by omega)⟩⟩
    have k0 : 0 ≤ b ∧ b < S0 9 0 := by rw [← hR0.1.2.2]; exact k1
    have hB := hg.2.2.2.2 b k0.1 k0.2
    have hB2 := hB.2.2.1
    have e15 : Y1 15 b = S0 16 b := by rw [hR0.2.2.1.2.2.2.2]
    have hbk : bk_ S0 b i := ⟨k0.1, k0.2, hi0, by omega⟩
    have hcb := cb_bound hg hbk
    obtain ⟨a1, a2, -⟩ := hB.2.2.2 i hi0 (by omega)
    obtain ⟨e16, e17⟩ := hR0.2.2.2.2 b i hbk
    refine ⟨by omega, by omega, by omega, by omega, by omega, by omega, by omega, by omega, by omega, by omega, rfl, fun S hR hI => ?_⟩
    have kS : 0 ≤ b ∧ b < S 9 0 := by rw [← hR.1.2.2]; exact k1
    have e15S : Y1 15 b = S 16 b := by rw [hR.2.2.1.2.2.2.2]
    obtain ⟨f16, f17⟩ := hR.2.2.2.2 b i ⟨kS.1, kS.2, hi0, by omega⟩
    unfold aHp_
    rw [if_pos kS, if_pos ⟨hi0, by omega⟩, f16, f17]
  · unfold aHp_
    rw [if_neg (fun q => h (hi1.mpr (by rw [hR.1.2.2]; exact q)))]
theorem ckM_hop : ∀ q ∈ mM_hop.2.1, Ck_ 1 RX1 LM 1 q.1 q.2 := List.forall_mem_cons.mpr ⟨⟨yX1_badBundle, cX1_badBundle, 2, 0, okM_badBundle, by decide, by decide, by decide +kernel, rfl, ⟨by decide, by decide⟩, lw_V q430 q432 qs31 q34 q433⟩, fun _ h => absurd h List.not_mem_nil⟩
theorem okM_hop : Cn_ 1 LM yX1_hop cX1_hop 3 1 csM_hop := by
  refine Cn_of mM_hop KlM hfM (by decide +kernel) rfl rfl rfl hM_hop ckM_hop (Or.inl (by decide)) ?_
  intro as X hl hr hX hp G hG
  match as, hl with
  | [a, b], _ => exact vM_hop (hr _ (by simp)) (hr _ (by simp)) hX hp hG
theorem R_cb {S Y : St_} (hR : R_ S Y) {b i : Int} (hb : bk_ S b i) : Y 17 (64 * b + i) + tk_ Y (Y 16 (64 * b + i)) (Y 12 b) + Y 7 (Y 16 (64 * b + i)) = cb_ S b i := by
  obtain ⟨e1, e2⟩ := hR.2.2.2.2 b i hb
  unfold cb_
  rw [e1, e2, R_tk hR, hR.2.2.1.2.2.1, hR.2.1.2.2.2.2.2.1]
def pM_place (b : Int) (X : St_) : Prop := Mi_ X
def qM_place (b : Int) (X : St_) (z : Int) (Y : St_) : Prop := Y = X ∧ ∀ S, R_ S X → IV_ S (fun _ => False) → z = aPl_ S b
def csM_place : Cs_ := (1, false, 1, (fun as X => match as with
  | [a] => pM_place a X
  | _ => False), (fun as X z Y => match as with
  | [a] => qM_place a X z Y
  | _ => False))
def mM_place : Mt_ := (LM, [(144, csM_badBundle), (106, csM_comesIn)], 1, EM_place)
set_option maxRecDepth 100000 in
theorem sM_place_0 {Rt : Int → St_ → Prop} {G : Nat → Lo_ → List Vl_ → St_ → Prop} (hG : Clo_ mM_place Rt G) {X : St_} {b : Int} (h : pM_badBundle b X ∧ (∀ (z1 : Int) (Y1 : St_), qM_badBundle b X z1 Y1 → (z1 = 0 → 0 ≤ b ∧ b < 10 ∧ zR (64 * b) ∧ G 22 [some (.inr 27), some (.inl b), some (.inl (Y1 10 b)), some (.inl (64 * b))] [] Y1) ∧ (¬ z1 = 0 → Rt (-1) Y1))) : G 0 [some (.inr 27), some (.inl b)] [] X := run_ hG [(22, 4)] 13 0 _ _ X h
set_option maxRecDepth 100000 in
theorem sM_place_22 {Rt : Int → St_ → Prop} {G : Nat → Lo_ → List Vl_ → St_ → Prop} (hG : Clo_ mM_place Rt G) {X : St_} {b node i : Int} (h : zR (64 * b) ∧ 0 ≤ b ∧ b < 10 ∧ zR ((64 * b) + (X 15 b)) ∧ ((64 * b) + (X 15 b) ≤ i → Rt node X) ∧ (i < (64 * b) + (X 15 b) → 0 ≤ i ∧ i < 640 ∧ 0 ≤ b ∧ b < 10 ∧ 0 ≤ i ∧ i < 640 ∧ pM_comesIn (X 16 i) (X 12 b) (X 17 i) X ∧ (∀ (z1 : Int) (Y1 : St_), qM_comesIn (X 16 i) (X 12 b) (X 17 i) X z1 Y1 → (z1 ≤ Y1 0 0 → 0 ≤ i ∧ i < 640 ∧ 0 ≤ Y1 16 i ∧ Y1 16 i < 10 ∧ zR (i + 1) ∧ G 22 [some (.inr 27), some (.inl b), some (.inl (Y1 3 (Y1 16 i))), some (.inl (i + 1))] [] Y1) ∧ (Y1 0 0 < z1 → 0 ≤ i ∧ i < 640 ∧ (Y1 0 0 ≤ Y1 17 i → Rt node Y1) ∧ (Y1 17 i < Y1 0 0 → 0 ≤ i ∧ i < 640 ∧ zR (10 + (Y1 16 i)) ∧ Rt (10 + (Y1 16 i)) Y1))))) : G 22 [some (.inr 27), some (.inl b), some (.inl node), some (.inl i)] [] X := run_ hG [(22, 4)] 42 22 _ _ X h
theorem lM_place {b : Int} {X S0 : St_} {G : Nat → Lo_ → List Vl_ → St_ → Prop} (hG : Clo_ mM_place (qM_place b X) G) (hR0 : R_ S0 X) (hI0 : IV_ S0 (fun _ => False)) (k1 : 0 ≤ b ∧ b < X 9 0) :
    ∀ (d : Nat) (j node : Int), X 15 b - j ≤ d → 0 ≤ j → j ≤ X 15 b → (∀ S, R_ S X → IV_ S (fun _ => False) → node = nb_ S b j ∧ ∀ i, 0 ≤ i → i < j → ¬ S 19 0 < cb_ S b i) → G 22 [some (.inr 27), some (.inl b), some (.inl node), some (.inl (64 * b + j))] [] X := by
  have hg := hI0.1.1
  have h9 := hg.2.2.1
  have hn := hg.1.2.1
  have k0 : 0 ≤ b ∧ b < S0 9 0 := by rw [← hR0.1.2.2]; exact k1
  have hB := hg.2.2.2.2 b k0.1 k0.2
  have hB2 := hB.2.2.1
  have e15 : X 15 b = S0 16 b := by rw [hR0.2.2.1.2.2.2.2]
  have fin : ∀ j node, X 15 b ≤ j → j ≤ X 15 b → (∀ S, R_ S X → IV_ S (fun _ => False) → node = nb_ S b j ∧ ∀ i, 0 ≤ i → i < j → ¬ S 19 0 < cb_ S b i) → qM_place b X node X := by
    intro j node hj hj2 hall
    refine ⟨rfl, fun S hR hI => ?_⟩
    obtain ⟨q1, q2⟩ := hall S hR hI
    have kS : 0 ≤ b ∧ b < S 9 0 := by rw [← hR.1.2.2]; exact k1
    have e15S : X 15 b = S 16 b := by rw [hR.2.2.1.2.2.2.2]
    have e : op_ S b = -1 := lst_none fun i hi => q2 i hi.1 (by omega) hi.2.2
    have ej : j = S 16 b := by omega
    unfold aPl_
    rw [if_pos kS, if_pos e, q1, ln_nb, ej]
  intro d
  induction d with
  | zero =>
    intro j node hd hj0 hj1 hall
    exact sM_place_22 hG ⟨by omega, k1.1, by omega, by omega, fun h => fin j node (by omega) hj1 hall, fun h => by omega⟩
  | succ d ih =>
    intro j node hd hj0 hj1 hall
    refine sM_place_22 hG ⟨by omega, k1.1, by omega, by omega, fun h => fin j node (by omega) hj1 hall, fun h => ?_⟩
    have hlt : j < X 15 b := by omega
    have hbk : bk_ S0 b j := ⟨k0.1, k0.2, hj0, by omega⟩
    obtain ⟨c1, c2, c3, c4, c5, c6, c7, c8⟩ := cb_bound hg hbk
    obtain ⟨d1, d2, d3, d4, d5, d6, d7, d8, d9, d10, d11⟩ := c8
    obtain ⟨a1, a2, -⟩ := hB.2.2.2 j hj0 (by omega)
    obtain ⟨e16, e17⟩ := hR0.2.2.2.2 b j hbk
    refine ⟨by omega, by omega, k1.1, by omega, by omega, by omega, ?_, ?_⟩
    · rw [e16, e17, hR0.2.2.1.2.2.1]
      exact ⟨a1, by omega, hB.1.2.2.2.2.2.1, hB.1.2.2.2.2.2.2, by rw [hR0.2.1.2.2.2.2.1]; exact d8, by rw [hR0.2.1.2.2.2.2.1]; exact d9, by rw [hR0.2.1.2.2.2.2.2.1]; exact d10, by rw [hR0.2.1.2.2.2.2.2.1]; exact d11, c1, by omega⟩
    · rintro z1 Y1 ⟨rfl, hz⟩
      have hbS : ∀ S, R_ S Y1 → IV_ S (fun _ => False) → bk_ S b j ∧ z1 = cb_ S b j ∧ Y1 0 0 = S 19 0 ∧ S 2 (S 17 (100 * b + j)) = nb_ S b j := by
        intro S hR hI
        have kS : 0 ≤ b ∧ b < S 9 0 := by rw [← hR.1.2.2]; exact k1
        have e15S : Y1 15 b = S 16 b := by rw [hR.2.2.1.2.2.2.2]
        have hb : bk_ S b j := ⟨kS.1, kS.2, hj0, by omega⟩
        exact ⟨hb, by rw [hz]; exact R_cb hR hb, hR.1.1, ((hI.1.1.2.2.2.2 b kS.1 kS.2).2.2.2 j hj0 (by omega)).2.2.2.2.1⟩
      refine ⟨fun hle => ⟨by omega, by omega, by rw [e16]; exact a1, by rw [e16]; omega, by omega, ?_⟩, fun hgt => ⟨by omega, by omega, fun hge => ⟨rfl, fun S hR hI => ?_⟩, fun hlt2 => ⟨by omega, by omega, by rw [e16]; omega, rfl, fun S hR hI => ?_⟩⟩⟩
      · rw [show 64 * b + j + 1 = 64 * b + (j + 1) by omega]
        refine ih (j + 1) _ (by omega) (by omega) (by omega) (fun S hR hI => ?_)
        obtain ⟨b1, b2, b3, b4⟩ := hbS S hR hI
        obtain ⟨q1, q2⟩ := hall S hR hI
        refine ⟨?_, fun i i0 i1 => ?_⟩
        · unfold nb_
          rw [if_neg (by omega), show 100 * b + (j + 1) - 1 = 100 * b + j by omega, (hR.2.2.2.2 b j b1).1, hR.2.1.2.1]
        · by_cases ei : i = j
          · rw [ei]; omega
          · exact q2 i i0 (by omega)
      · obtain ⟨b1, b2, b3, b4⟩ := hbS S hR hI
        obtain ⟨q1, q2⟩ := hall S hR hI
        have e : op_ S b = j := lst_eq ⟨hj0, b1.2.2.2, by omega⟩ fun i hi => by
          apply Int.not_lt.mp
          intro hlt
          exact q2 i hi.1 hlt hi.2.2
        have f17 := (hR.2.2.2.2 b j b1).2
        unfold aPl_
        rw [if_pos ⟨b1.1, b1.2.1⟩, e, if_neg (by omega), if_neg (by omega), b4]
        exact q1
      · obtain ⟨b1, b2, b3, b4⟩ := hbS S hR hI
        obtain ⟨q1, q2⟩ := hall S hR hI
        have e : op_ S b = j := lst_eq ⟨hj0, b1.2.2.2, by omega⟩ fun i hi => by
          apply Int.not_lt.mp
          intro hlt
          exact q2 i hi.1 hlt hi.2.2
        obtain ⟨f16, f17⟩ := hR.2.2.2.2 b j b1
        unfold aPl_
        rw [if_pos ⟨b1.1, b1.2.1⟩, e, if_neg (by omega), if_pos (by omega), f16]
theorem vM_place {b : Int} {X : St_} (r1 : zR b) (hX : rgX_ X) (hp : pM_place b X) {G : Nat → Lo_ → List Vl_ → St_ → Prop} (hG : Clo_ mM_place (qM_place b X) G) : G 0 [some (.inr 27), some (.inl b)] [] X := by
  obtain ⟨S0, hR0, hI0⟩ := hp
  have h9 := hI0.1.1.2.2.1
  rw [← hR0.1.2.2] at h9
  refine sM_place_0 hG ⟨trivial, ?_⟩
  rintro z1 Y1 ⟨rfl, hz1, hi1⟩
  refine ⟨fun h => ?_, fun h => ⟨rfl, fun S hR hI => ?_⟩⟩
  · have k1 := hi1.mp h
    have hB := (hI0.1.1.2.2.2.2 b k1.1 (by rw [← hR0.1.2.2]; exact k1.2)).2.2.1
    rw [← hR0.2.2.1.2.2.2.2] at hB
    refine ⟨k1.1, by omega, by omega, ?_⟩
    have q := lM_place hG hR0 hI0 k1 (Y1 15 b).toNat 0 (Y1 10 b) (by omega) (by omega) (by omega) (fun S hR hI => ⟨?_, fun i i0 i1 => by omega⟩)
    · rw [Int.add_zero] at q
      exact q
    · unfold nb_
      rw [if_pos rfl, hR.2.2.1.1]
  · unfold aPl_
    rw [if_neg (fun q => h (hi1.mpr (by rw [hR.1.2.2]; exact q)))]
theorem ckM_place : ∀ q ∈ mM_place.2.1, Ck_ 1 RX1 LM 2 q.1 q.2 := List.forall_mem_cons.mpr ⟨⟨yX1_badBundle, cX1_badBundle, 2, 0, okM_badBundle, by decide, by decide, by decide +kernel, rfl, ⟨by decide, by decide⟩, lw_V q430 q432 qs31 q34 q433⟩, List.forall_mem_cons.mpr ⟨⟨yX1_comesIn, cX1_comesIn, 4, 1, okM_comesIn, by decide, by decide, by decide +kernel, rfl, ⟨by decide, by decide⟩, lw_V q366 q368 qs21 q34 q369⟩, fun _ h => absurd h List.not_mem_nil⟩⟩
theorem okM_place : Cn_ 1 LM yX1_place cX1_place 4 2 csM_place := by
  refine Cn_of mM_place KlM hfM (by decide +kernel) rfl rfl rfl hM_place ckM_place (Or.inl (by decide)) ?_
  intro as X hl hr hX hp G hG
  match as, hl with
  | [a], _ => exact vM_place (hr _ (by simp)) hX hp hG
/-- the ticks of a contact that the bookings ahead of one (b, j) take -/
def oP_ (S : St_) (k b j t : Int) : Prop := ∃ c i, bk_ S c i ∧ (c < b ∨ (c = b ∧ i < j)) ∧ S 17 (100 * c + i) = k ∧ S 18 (100 * c + i) ≤ t ∧ t < S 18 (100 * c + i) + tk_ S k (S 12 c)
noncomputable def oq_ (S : St_) (k b j t : Int) : Int := @ite Int (oP_ S k b j t) (Classical.propDecidable _) 1 0
noncomputable def oF_ (S : St_) (k b j : Int) : Int := sm_ (oq_ S k b j) 101
theorem oq_pos {S : St_} {k b j t : Int} (h : oP_ S k b j t) : oq_ S k b j t = 1 := if_pos h
theorem oq_neg {S : St_} {k b j t : Int} (h : ¬ oP_ S k b j t) : oq_ S k b j t = 0 := if_neg h
theorem sm_add (f g : Int → Int) : ∀ (n : Nat), sm_ (fun t => f t + g t) n = sm_ f n + sm_ g n := by
  intro n
  induction n with
  | zero => rfl
  | succ n ih =>
    show sm_ (fun t => f t + g t) n + (f n + g n) = (sm_ f n + f n) + (sm_ g n + g n)
    rw [ih]
    omega
theorem sm_iv {a d : Int} (ha : 0 ≤ a) (hd : 0 ≤ d) : ∀ (n : Nat), sm_ (fun t => if a ≤ t ∧ t < a + d then 1 else 0) n = if (n : Int) ≤ a then 0 else if (n : Int) ≤ a + d then n - a else d := by
  intro n
  induction n with
  | zero =>
    rw [if_pos (by omega)]
    rfl
  | succ n ih =>
    show sm_ (fun t => if a ≤ t ∧ t < a + d then 1 else 0) n + (if a ≤ (n : Int) ∧ (n : Int) < a + d then 1 else 0) = _
    rw [ih]
    push_cast
    repeat' split
    all_goals omega
theorem oF_bound (S : St_) (k b j : Int) : 0 ≤ oF_ S k b j ∧ oF_ S k b j ≤ 101 := by
  have h01 : ∀ t, oq_ S k b j t = 0 ∨ oq_ S k b j t = 1 := by
    intro t
    by_cases h : oP_ S k b j t
    · exact Or.inr (oq_pos h)
    · exact Or.inl (oq_neg h)
  constructor
  · exact sm_nonneg 101 (fun t _ _ => by rcases h01 t with e | e <;> omega)
  · have := sm_le (f := oq_ S k b j) (c := 1) 101 (fun t _ _ => by rcases h01 t with e | e <;> omega)
    unfold oF_
    omega
theorem oF_step {S : St_} (hJ : J_ S) {k b j : Int} (hb : bk_ S b j) : oF_ S k b (j + 1) = oF_ S k b j + if S 17 (100 * b + j) = k then tk_ S k (S 12 b) else 0 := by
  obtain ⟨hg, hBZ, hDJ⟩ := hJ
  have hcb := cb_bound hg hb
  by_cases hk : S 17 (100 * b + j) = k
  · rw [if_pos hk]
    rw [hk] at hcb
    have hB := (hg.2.2.2.2 b hb.1 hb.2.1).2.2.2 j hb.2.2.1 hb.2.2.2
    obtain ⟨a1, a2, a3, a4, -⟩ := hB
    rw [hk] at a4 a1 a2 a3
    have h5 := (hg.1.2.2 k a1 a2).2.2.2.2.2.2.1
    have key : ∀ t : Int, 0 ≤ t → t < (101 : Nat) → oq_ S k b (j + 1) t = oq_ S k b j t + (if S 18 (100 * b + j) ≤ t ∧ t < S 18 (100 * b + j) + tk_ S k (S 12 b) then 1 else 0) := by
      intro t _ _
      by_cases hQ : S 18 (100 * b + j) ≤ t ∧ t < S 18 (100 * b + j) + tk_ S k (S 12 b)
      · have hP : ¬ oP_ S k b j t := by
          rintro ⟨c, i, hc, ho, e1, e2, e3⟩
          have hd := hDJ c i b j hc hb (by rw [e1, hk]) (by omega)
          rw [e1, hk] at hd
          omega
        have hP' : oP_ S k b (j + 1) t := ⟨b, j, hb, Or.inr ⟨rfl, by omega⟩, hk, hQ.1, hQ.2⟩
        rw [oq_pos hP', oq_neg hP, if_pos hQ]
        rfl
      · rw [if_neg hQ]
        by_cases hP : oP_ S k b j t
        · have hP' : oP_ S k b (j + 1) t := by
            obtain ⟨c, i, hc, ho, e⟩ := hP
            exact ⟨c, i, hc, by omega, e⟩
          rw [oq_pos hP', oq_pos hP]
          rfl
        · have hP' : ¬ oP_ S k b (j + 1) t := by
            rintro ⟨c, i, hc, ho, e1, e2, e3⟩
            by_cases hcj : c = b ∧ i = j
            · rw [hcj.1, hcj.2] at e2 e3
              exact hQ ⟨e2, e3⟩
            · exact hP ⟨c, i, hc, by omega, e1, e2, e3⟩
          rw [oq_neg hP', oq_neg hP]
          rfl
    unfold oF_
    rw [sm_congr 101 key, sm_add, sm_iv (by omega) (by omega)]
    rw [if_neg (by omega), if_neg (by omega)]
  · rw [if_neg hk, Int.add_zero]
    unfold oF_
    refine sm_congr 101 (fun t _ _ => ?_)
    by_cases hP : oP_ S k b j t
    · have hP' : oP_ S k b (j + 1) t := by
        obtain ⟨c, i, hc, ho, e⟩ := hP
        exact ⟨c, i, hc, by omega, e⟩
      rw [oq_pos hP', oq_pos hP]
    · have hP' : ¬ oP_ S k b (j + 1) t := by
        rintro ⟨c, i, hc, ho, e1, e2, e3⟩
        by_cases hcj : c = b ∧ i = j
        · rw [hcj.1, hcj.2] at e1
          exact hk e1
        · exact hP ⟨c, i, hc, by omega, e1, e2, e3⟩
      rw [oq_neg hP', oq_neg hP]
theorem oF_eq {S : St_} {k b j : Int} {f : Int → Int} (h : ∀ t : Int, 0 ≤ t → t < (101 : Nat) → (oP_ S k b j t → f t = 1) ∧ (¬ oP_ S k b j t → f t = 0)) : oF_ S k b j = sm_ f 101 := by
  unfold oF_
  refine sm_congr 101 (fun t t0 t1 => ?_)
  obtain ⟨h1, h2⟩ := h t t0 t1
  by_cases hP : oP_ S k b j t
  · rw [oq_pos hP, h1 hP]
  · rw [oq_neg hP, h2 hP]
theorem oF_row {S : St_} {k b : Int} : oF_ S k b (S 16 b) = oF_ S k (b + 1) 0 := by
  refine oF_eq (f := oq_ S k (b + 1) 0) (fun t _ _ => ⟨fun hP => oq_pos ?_, fun hP => oq_neg ?_⟩)
  · obtain ⟨c, i, hc, ho, e⟩ := hP
    exact ⟨c, i, hc, by omega, e⟩
  · rintro ⟨c, i, hc, ho, e⟩
    refine hP ⟨c, i, hc, ?_, e⟩
    have h3 := hc.2.2.1
    have h4 := hc.2.2.2
    by_cases ec : c = b
    · rw [ec] at h4
      exact Or.inr ⟨ec, h4⟩
    · omega
theorem oF_0 {S : St_} {k : Int} : oF_ S k 0 0 = 0 := by
  have : oF_ S k 0 0 = sm_ (fun _ => 0) 101 := oF_eq (fun t _ _ => ⟨fun hP => by
    obtain ⟨c, i, hc, ho, -⟩ := hP
    have h1 := hc.1
    have h3 := hc.2.2.1
    omega, fun _ => rfl⟩)
  rw [this]
  have h1 := sm_nonneg (f := fun _ => 0) 101 (fun _ _ _ => Int.le_refl 0)
  have h2 := sm_le (f := fun _ => 0) (c := 0) 101 (fun _ _ _ => Int.le_refl 0)
  omega
theorem oF_end {S : St_} (hJ : J_ S) {k : Int} (hk0 : 0 ≤ k) (hk1 : k < 10) : oF_ S k (S 9 0) 0 = sm_ (fun t => S 8 (101 * k + t)) 101 := by
  refine oF_eq (fun t t0 t1 => ?_)
  have hiff : oP_ S k (S 9 0) 0 t ↔ oc_ S k t := by
    constructor
    · rintro ⟨c, i, hc, ho, e⟩
      exact ⟨c, i, hc, e⟩
    · rintro ⟨c, i, hc, e⟩
      exact ⟨c, i, hc, Or.inl hc.2.1, e⟩
  rcases hJ.2.1 k t hk0 hk1 t0 (by omega) with ⟨z, o⟩ | ⟨z, o⟩
  · exact ⟨fun _ => z, fun hP => absurd (hiff.mpr o) hP⟩
  · exact ⟨fun hP => absurd (hiff.mp hP) o, fun _ => z⟩
def pM_booked (k : Int) (X : St_) : Prop := Mi_ X
def qM_booked (k : Int) (X : St_) (z : Int) (Y : St_) : Prop := Y = X ∧ ∀ S, R_ S X → IV_ S (fun _ => False) → z = aBk_ S k
def csM_booked : Cs_ := (1, false, 1, (fun as X => match as with
  | [a] => pM_booked a X
  | _ => False), (fun as X z Y => match as with
  | [a] => qM_booked a X z Y
  | _ => False))
def mM_booked : Mt_ := (LM, [(77, csM_ticks)], 1, EM_booked)
set_option maxRecDepth 100000 in
theorem sM_booked_0 {Rt : Int → St_ → Prop} {G : Nat → Lo_ → List Vl_ → St_ → Prop} (hG : Clo_ mM_booked Rt G) {X : St_} {k : Int} (h : (k < 0 → Rt (-1) X) ∧ (0 ≤ k → (k < X 1 0 → 0 ≤ k ∧ k < 10 ∧ (X 8 k = 0 → G 30 [some (.inr 27), some (.inl k), some (.inl 0), some (.inl 0)] [] X) ∧ (¬ X 8 k = 0 → Rt (-2) X)) ∧ (X 1 0 ≤ k → Rt (-1) X))) : G 0 [some (.inr 27), some (.inl k)] [] X := run_ hG [(30, 4), (44, 5)] 15 0 _ _ X h
set_option maxRecDepth 100000 in
theorem sM_booked_30 {Rt : Int → St_ → Prop} {G : Nat → Lo_ → List Vl_ → St_ → Prop} (hG : Clo_ mM_booked Rt G) {X : St_} {k sum b : Int} (h : (X 9 0 ≤ b → Rt sum X) ∧ (b < X 9 0 → zR (64 * b) ∧ G 44 [some (.inr 27), some (.inl k), some (.inl sum), some (.inl b), some (.inl (64 * b))] [] X)) : G 30 [some (.inr 27), some (.inl k), some (.inl sum), some (.inl b)] [] X := run_ hG [(30, 4), (44, 5)] 8 30 _ _ X h
set_option maxRecDepth 100000 in
theorem sM_booked_44 {Rt : Int → St_ → Prop} {G : Nat → Lo_ → List Vl_ → St_ → Prop} (hG : Clo_ mM_booked Rt G) {X : St_} {k sum b i : Int} (h : zR (64 * b) ∧ 0 ≤ b ∧ b < 10 ∧ zR ((64 * b) + (X 15 b)) ∧ ((64 * b) + (X 15 b) ≤ i → zR (b + 1) ∧ G 30 [some (.inr 27), some (.inl k), some (.inl sum), some (.inl (b + 1))] [] X) ∧ (i < (64 * b) + (X 15 b) → 0 ≤ i ∧ i < 640 ∧ (¬ X 16 i = k → zR (i + 1) ∧ G 44 [some (.inr 27), some (.inl k), some (.inl sum), some (.inl b), some (.inl (i + 1))] [] X) ∧ (X 16 i = k → 0 ≤ b ∧ b < 10 ∧ pM_ticks k (X 12 b) X ∧ (∀ (z1 : Int) (Y1 : St_), qM_ticks k (X 12 b) X z1 Y1 → zR (sum + z1) ∧ zR (i + 1) ∧ G 44 [some (.inr 27), some (.inl k), some (.inl (sum + z1)), some (.inl b), some (.inl (i + 1))] [] Y1)))) : G 44 [some (.inr 27), some (.inl k), some (.inl sum), some (.inl b), some (.inl i)] [] X := run_ hG [(30, 4), (44, 5)] 28 44 _ _ X h
theorem lM_booked44 {k : Int} {X S0 : St_} {G : Nat → Lo_ → List Vl_ → St_ → Prop} (hG : Clo_ mM_booked (qM_booked k X) G) (hR0 : R_ S0 X) (hI0 : IV_ S0 (fun _ => False)) (hk : 0 ≤ k ∧ k < X 1 0) {b : Int} (hb0 : 0 ≤ b) (hb1 : b < X 9 0)
    (hK : ∀ sum, (∀ S, R_ S X → IV_ S (fun _ => False) → sum = oF_ S k (b + 1) 0) → G 30 [some (.inr 27), some (.inl k), some (.inl sum), some (.inl (b + 1))] [] X) :
    ∀ (d : Nat) (j sum : Int), X 15 b - j ≤ d → 0 ≤ j → j ≤ X 15 b → (∀ S, R_ S X → IV_ S (fun _ => False) → sum = oF_ S k b j) → G 44 [some (.inr 27), some (.inl k), some (.inl sum), some (.inl b), some (.inl (64 * b + j))] [] X := by
  have hg := hI0.1.1
  have h9 := hg.2.2.1
  have hn := hg.1.2.1
  have e1 : X 1 0 = S0 0 0 := hR0.1.2.1
  have hb1' : b < S0 9 0 := by rw [← hR0.1.2.2]; exact hb1
  have hB := hg.2.2.2.2 b hb0 hb1'
  have hB2 := hB.2.2.1
  have e15 : X 15 b = S0 16 b := by rw [hR0.2.2.1.2.2.2.2]
  obtain ⟨d1, d2, d3, d4, d5, d6, d7, d8, d9, d10, d11⟩ := hg.1.2.2 k hk.1 (by omega)
  have e6 : X 6 k = S0 6 k := by rw [hR0.2.1.2.2.2.2.1]
  have e12 : X 12 b = S0 12 b := by rw [hR0.2.2.1.2.2.1]
  have hs1 := hB.1.2.2.2.2.2.1
  have hs2 := hB.1.2.2.2.2.2.2
  have t1 := tk_pos (X := X) (k := k) (size := X 12 b) (by rw [e6]; exact d8) (by rw [e12]; exact hs1)
  have t2 := tk_le (X := X) (k := k) (size := X 12 b) (by rw [e6]; exact d8) (by rw [e12]; exact hs1)
  have fin : ∀ j sum, X 15 b ≤ j → j ≤ X 15 b → (∀ S, R_ S X → IV_ S (fun _ => False) → sum = oF_ S k b j) → G 30 [some (.inr 27), some (.inl k), some (.inl sum), some (.inl (b + 1))] [] X := by
    intro j sum h1 h2 hall
    refine hK sum (fun S hR hI => ?_)
    have e15S : X 15 b = S 16 b := by rw [hR.2.2.1.2.2.2.2]
    rw [hall S hR hI, show j = S 16 b by omega]
    exact oF_row
  intro d
  induction d with
  | zero =>
    intro j sum hd hj0 hj1 hall
    exact sM_booked_44 hG ⟨by omega, hb0, by omega, by omega, fun _ => ⟨by omega, fin j sum (by omega) hj1 hall⟩, fun h => by omega⟩
  | succ d ih =>
    intro j sum hd hj0 hj1 hall
    refine sM_booked_44 hG ⟨by omega, hb0, by omega, by omega, fun _ => ⟨by omega, fin j sum (by omega) hj1 hall⟩, fun h => ?_⟩
    have hlt : j < X 15 b := by omega
    have hbS : ∀ S, R_ S X → bk_ S b j := by
      intro S hR
      have e15S : X 15 b = S 16 b := by rw [hR.2.2.1.2.2.2.2]
      exact ⟨hb0, by rw [← hR.1.2.2]; exact hb1, hj0, by omega⟩
    have hsum := oF_bound S0 k b j
    rw [← hall S0 hR0 hI0] at hsum
    rw [show 64 * b + j + 1 = 64 * b + (j + 1) by omega]
    refine ⟨by omega, by omega, fun hne => ⟨by omega, ?_⟩, fun he => ⟨hb0, by omega, ⟨hk.1, by omega, by rw [e12]; exact hs1, by rw [e12]; exact hs2, by rw [e6]; exact d8, by rw [e6]; exact d9⟩, ?_⟩⟩
    · refine ih (j + 1) sum (by omega) (by omega) (by omega) (fun S hR hI => ?_)
      rw [oF_step hI.1 (hbS S hR), if_neg (by rw [← (hR.2.2.2.2 b j (hbS S hR)).1]; exact hne), Int.add_zero]
      exact hall S hR hI
    · rintro z1 Y1 ⟨rfl, rfl⟩
      refine ⟨by omega, by omega, ?_⟩
      refine ih (j + 1) _ (by omega) (by omega) (by omega) (fun S hR hI => ?_)
      rw [oF_step hI.1 (hbS S hR), if_pos (by rw [← (hR.2.2.2.2 b j (hbS S hR)).1]; exact he), ← hall S hR hI, R_tk hR, hR.2.2.1.2.2.1]
theorem lM_booked30 {k : Int} {X S0 : St_} {G : Nat → Lo_ → List Vl_ → St_ → Prop} (hG : Clo_ mM_booked (qM_booked k X) G) (hR0 : R_ S0 X) (hI0 : IV_ S0 (fun _ => False)) (hk : 0 ≤ k ∧ k < X 1 0) (hc : X 8 k = 0) :
    ∀ (d : Nat) (b sum : Int), X 9 0 - b ≤ d → 0 ≤ b → b ≤ X 9 0 → (∀ S, R_ S X → IV_ S (fun _ => False) → sum = oF_ S k b 0) → G 30 [some (.inr 27), some (.inl k), some (.inl sum), some (.inl b)] [] X := by
  have hg := hI0.1.1
  have h9 := hg.2.2.1
  have hn := hg.1.2.1
  rw [← hR0.1.2.2] at h9
  rw [← hR0.1.2.1] at hn
  have fin : ∀ b sum, X 9 0 ≤ b → b ≤ X 9 0 → (∀ S, R_ S X → IV_ S (fun _ => False) → sum = oF_ S k b 0) → qM_booked k X sum X := by
    intro b sum h1 h2 hall
    refine ⟨rfl, fun S hR hI => ?_⟩
    have q9 : X 9 0 = S 9 0 := hR.1.2.2
    have q0 : X 1 0 = S 0 0 := hR.1.2.1
    have q1 : X 8 k = S 1 k := by rw [hR.2.1.2.2.2.2.2.2]
    unfold aBk_
    rw [if_pos ⟨hk.1, by omega⟩, if_pos (by omega), hall S hR hI, show b = S 9 0 by omega]
    exact oF_end hI.1 hk.1 (by omega)
  intro d
  induction d with
  | zero =>
    intro b sum hd hb0 hb1 hall
    exact sM_booked_30 hG ⟨fun h => fin b sum h hb1 hall, fun h => by omega⟩
  | succ d ih =>
    intro b sum hd hb0 hb1 hall
    refine sM_booked_30 hG ⟨fun h => fin b sum h hb1 hall, fun h => ⟨by omega, ?_⟩⟩
    have hB := (hI0.1.1.2.2.2.2 b hb0 (by rw [← hR0.1.2.2]; exact h)).2.2.1
    rw [← hR0.2.2.1.2.2.2.2] at hB
    have q := lM_booked44 hG hR0 hI0 hk hb0 h (fun sum' hall' => ih (b + 1) sum' (by omega) (by omega) (by omega) hall') (X 15 b).toNat 0 sum (by omega) (by omega) (by omega) hall
    rw [Int.add_zero] at q
    exact q
theorem vM_booked {k : Int} {X : St_} (r1 : zR k) (hX : rgX_ X) (hp : pM_booked k X) {G : Nat → Lo_ → List Vl_ → St_ → Prop} (hG : Clo_ mM_booked (qM_booked k X) G) : G 0 [some (.inr 27), some (.inl k)] [] X := by
  obtain ⟨S0, hR0, hI0⟩ := hp
  have hn := hI0.1.1.1.2.1
  have h9 := hI0.1.1.2.2.1
  rw [← hR0.1.2.2] at h9
  rw [← hR0.1.2.1] at hn
  have bad : ¬ (0 ≤ k ∧ k < X 1 0) → qM_booked k X (-1) X := fun hno => ⟨rfl, fun S hR hI => by
    unfold aBk_
    rw [if_neg (by rw [← hR.1.2.1]; exact hno)]⟩
  refine sM_booked_0 hG ⟨fun h => bad (by omega), fun hk0 => ⟨fun hk1 => ⟨hk0, by omega, fun hc => ?_, fun hc => ⟨rfl, fun S hR hI => ?_⟩⟩, fun h => bad (by omega)⟩⟩
  · exact lM_booked30 hG hR0 hI0 ⟨hk0, hk1⟩ hc (X 9 0).toNat 0 0 (by omega) (by omega) (by omega) (fun S _ _ => oF_0.symm)
  · have q1 : X 8 k = S 1 k := by rw [hR.2.1.2.2.2.2.2.2]
    unfold aBk_
    rw [if_pos ⟨hk0, by rw [← hR.1.2.1]; exact hk1⟩, if_neg (by rw [← q1]; exact hc)]
theorem ckM_booked : ∀ q ∈ mM_booked.2.1, Ck_ 1 RX1 LM 1 q.1 q.2 := List.forall_mem_cons.mpr ⟨⟨yX1_ticks, cX1_ticks, 4, 0, okM_ticks, by decide, by decide, by decide +kernel, rfl, ⟨by decide, by decide⟩, lw_V q370 q372 qs22 q34 q373⟩, fun _ h => absurd h List.not_mem_nil⟩
theorem okM_booked : Cn_ 1 LM yX1_booked cX1_booked 5 1 csM_booked := by
  refine Cn_of mM_booked KlM hfM (by decide +kernel) rfl rfl rfl hM_booked ckM_booked (Or.inl (by decide)) ?_
  intro as X hl hr hX hp G hG
  match as, hl with
  | [a], _ => exact vM_booked (hr _ (by simp)) hX hp hG
end
section
/-! THE MODEL's QUERIES OF ROUTES: quote, reach, latest -/
theorem bf_no {N : St_} (hN : nOK_ N) {size goal v t : Int} (hs : 1 ≤ size) (ht : t < 1000000) (hB : bf_ N size v t goal = none) (R : List Int) (c : Int) (hR1 : R ≠ []) (hR2 : R.length ≤ 5) : ¬ wk_ N size v t R goal c := by
  intro hR3
  have h := vs_Bst (goal := goal) hN hs 5 [] v t none (fun _ _ => False) ht List.nodup_nil (fun R c q => q.elim) ⟨fun _ R c q => q, fun L a q => by cases q⟩
  rw [vs_best hN hs ht, hB] at h
  have hno := h.1 rfl
  by_cases hd : R.Nodup
  · exact hno R c (Or.inr ⟨R, hR1, hR2, rfl, hd, hR3⟩)
  · obtain ⟨L0, a0, g1, g2, g3, g4, g5⟩ := wk_nodup hN hs R.length R c (Nat.le_refl _) hR3 hd
    exact hno L0 a0 (Or.inr ⟨L0, g5, by omega, rfl, g3, g1⟩)
/-- the best route's arrival is the earliest coming in -/
theorem bf_ea {N : St_} (hN : nOK_ N) {size v t tgt : Int} (hs : 1 ≤ size) (ht : t < 1000000) (hne : v ≠ tgt) : (bf_ N size v t tgt = none → ¬ ea_ N size v t 5 tgt < 1000000) ∧ ∀ q, bf_ N size v t tgt = some q → ea_ N size v t 5 tgt = q.2 ∧ q.2 < 1000000 := by
  have hne0 : ∀ L a, wk_ N size v t L tgt a → L ≠ [] := by
    intro L a hw e
    rw [e] at hw
    exact hne hw.1.symm
  constructor
  · intro hB hlt
    obtain ⟨L, hl, hw⟩ := ea_walk hN 5 tgt hlt
    exact bf_no hN hs ht hB L _ (hne0 L _ hw) hl hw
  · intro q hB
    have hb := bf_spec hB
    have h1 := ea_min hN hs 5 q.1 tgt q.2 hb.2.2.1 hb.1
    have h2 := (wk_len hN hs q.1 hb.1).2 hb.2.1
    have hlt : ea_ N size v t 5 tgt < 1000000 := by omega
    obtain ⟨L, hl, hw⟩ := ea_walk hN 5 tgt hlt
    have h3 := hb.2.2.2 L _ (hne0 L _ hw) hl hw
    exact ⟨by omega, by omega⟩
/-- what findBest says, in terms of the earliest coming in -/
theorem fB_ea {node ready goal size z : Int} {X Y S : St_} (h : qM_findBest node ready goal size X z Y) (hR : R_ S X) (hJ : J_ S) (hs : 1 ≤ size) (hr : ready ≤ 30000) (hne : node ≠ goal) : (z = 0 ∧ ¬ ea_ S size node ready 5 goal < 1000000) ∨ (z = 1 ∧ ea_ S size node ready 5 goal < 1000000 ∧ Y 24 0 = ea_ S size node ready 5 goal) := by
  have h2 := h.2 S hR hJ
  obtain ⟨b1, b2⟩ := bf_ea hJ.1.1 (v := node) (t := ready) (tgt := goal) hs (by omega) hne
  cases hB : bf_ S size node ready goal with
  | none =>
    rw [hB] at h2
    exact Or.inl ⟨h2, b1 hB⟩
  | some q =>
    rw [hB] at h2
    obtain ⟨c1, c2⟩ := b2 q hB
    exact Or.inr ⟨h2.1, by omega, by rw [h2.2.2.1, c1]⟩
def pM_quote (e size : Int) (X : St_) : Prop := Mi_ X
def qM_quote (e size : Int) (X : St_) (z : Int) (Y : St_) : Prop := fr_ [18, 19, 20, 21, 22, 23, 24, 25, 26] X Y ∧ ∀ S, R_ S X → IV_ S (fun _ => False) → z = aQt_ S e size
def csM_quote : Cs_ := (2, false, 1, (fun as X => match as with
  | [a, b] => pM_quote a b X
  | _ => False), (fun as X z Y => match as with
  | [a, b] => qM_quote a b X z Y
  | _ => False))
def mM_quote : Mt_ := (LM, [(131, csM_badEnds), (141, csM_badSize), (123, csM_findBest)], 1, EM_quote)
set_option maxRecDepth 100000 in
theorem sM_quote_0 {Rt : Int → St_ → Prop} {G : Nat → Lo_ → List Vl_ → St_ → Prop} (hG : Clo_ mM_quote Rt G) {X : St_} {e size : Int} (h : pM_badEnds e X ∧ (∀ (z1 : Int) (Y1 : St_), qM_badEnds e X z1 Y1 → (¬ z1 = 0 → Rt (-1) Y1) ∧ (z1 = 0 → pM_badSize size Y1 ∧ (∀ (z2 : Int) (Y2 : St_), qM_badSize size Y1 z2 Y2 → (z2 = 0 → 0 ≤ e ∧ 0 < (6 : Int) ∧ 0 ≤ e ∧ 0 < (6 : Int) ∧ pM_findBest (e / 6) (Y2 0 0) (e % 6) size Y2 ∧ (∀ (z3 : Int) (Y3 : St_), qM_findBest (e / 6) (Y2 0 0) (e % 6) size Y2 z3 Y3 → (z3 = 0 → Rt (-2) Y3) ∧ (¬ z3 = 0 → Rt (Y3 24 0) Y3))) ∧ (¬ z2 = 0 → Rt (-1) Y2))))) : G 0 [some (.inr 27), some (.inl e), some (.inl size)] [] X := run_ hG [] 24 0 _ _ X h
theorem vM_quote {e size : Int} {X : St_} (r1 : zR e) (r2 : zR size) (hX : rgX_ X) (hp : pM_quote e size X) {G : Nat → Lo_ → List Vl_ → St_ → Prop} (hG : Clo_ mM_quote (qM_quote e size X) G) : G 0 [some (.inr 27), some (.inl e), some (.inl size)] [] X := by
  obtain ⟨S0, hR0, hI0⟩ := hp
  have h19 := hI0.1.1.2.2.2.1
  have q19 : X 0 0 = S0 19 0 := hR0.1.1
  have bad : ¬ ((0 ≤ e ∧ e < 36 ∧ e / 6 ≠ e % 6) ∧ (1 ≤ size ∧ size ≤ 30)) → qM_quote e size X (-1) X := fun hno => ⟨fr_.refl _ _, fun S hR hI => by
    unfold aQt_
    rw [if_neg hno]⟩
  refine sM_quote_0 hG ⟨trivial, ?_⟩
  rintro z1 Y1 ⟨rfl, hz1, hi1⟩
  refine ⟨fun h => bad (fun q => h (hi1.mpr q.1)), fun h => ⟨trivial, ?_⟩⟩
  have k1 := hi1.mp h
  rintro z2 Y2 ⟨rfl, hz2, hi2⟩
  refine ⟨fun h => ?_, fun h => bad (fun q => h (hi2.mpr q.2))⟩
  have k2 := hi2.mp h
  refine ⟨k1.1, by omega, k1.1, by omega, ⟨⟨S0, hR0, hI0.1⟩, by omega, k2.1, k2.2⟩, ?_⟩
  intro z3 Y3 hq
  have key : ∀ S, R_ S Y2 → IV_ S (fun _ => False) → (z3 = 0 ∧ aQt_ S e size = -2) ∨ (z3 = 1 ∧ aQt_ S e size = Y3 24 0) := by
    intro S hR hI
    have e19 : Y2 0 0 = S 19 0 := hR.1.1
    have hb := fB_ea hq hR hI.1 k2.1 (by omega) k1.2.2
    rw [e19] at hb
    unfold aQt_
    rw [if_pos ⟨k1, k2⟩]
    rcases hb with ⟨a1, a2⟩ | ⟨a1, a2, a3⟩
    · exact Or.inl ⟨a1, if_neg a2⟩
    · exact Or.inr ⟨a1, by rw [if_pos a2, a3]⟩
  refine ⟨fun h0 => ⟨hq.1, fun S hR hI => ?_⟩, fun hne => ⟨hq.1, fun S hR hI => ?_⟩⟩
  · rcases key S hR hI with ⟨-, a2⟩ | ⟨a1, -⟩
    · exact a2.symm
    · omega
  · rcases key S hR hI with ⟨a1, -⟩ | ⟨-, a2⟩
    · exact absurd a1 hne
    · exact a2.symm
theorem ckM_quote : ∀ q ∈ mM_quote.2.1, Ck_ 1 RX1 LM 4 q.1 q.2 := List.forall_mem_cons.mpr ⟨⟨yX1_badEnds, cX1_badEnds, 2, 0, okM_badEnds, by decide, by decide, by decide +kernel, rfl, ⟨by decide, by decide⟩, lw_V q350 q352 qs17 q34 q353⟩, List.forall_mem_cons.mpr ⟨⟨yX1_badSize, cX1_badSize, 2, 0, okM_badSize, by decide, by decide, by decide +kernel, rfl, ⟨by decide, by decide⟩, lw_V q414 q416 qs30 q34 q417⟩, List.forall_mem_cons.mpr ⟨⟨yX1_findBest, cX1_findBest, 8, 3, okM_findBest, by decide, by decide, by decide +kernel, rfl, ⟨by decide, by decide⟩, lw_V q378 q380 qs24 q34 q381⟩, fun _ h => absurd h List.not_mem_nil⟩⟩⟩
theorem okM_quote : Cn_ 1 LM yX1_quote cX1_quote 3 4 csM_quote := by
  refine Cn_of mM_quote KlM hfM (by decide +kernel) rfl rfl rfl hM_quote ckM_quote (Or.inl (by decide)) ?_
  intro as X hl hr hX hp G hG
  match as, hl with
  | [a, b], _ => exact vM_quote (hr _ (by simp)) (hr _ (by simp)) hX hp hG
def pM_reach (node size lim : Int) (X : St_) : Prop := Mi_ X
def qM_reach (node size lim : Int) (X : St_) (z : Int) (Y : St_) : Prop := fr_ [18, 19, 20, 21, 22, 23, 24, 25, 26] X Y ∧ ∀ S, R_ S X → IV_ S (fun _ => False) → z = aRc_ S node size lim
def csM_reach : Cs_ := (3, false, 1, (fun as X => match as with
  | [a, b, c] => pM_reach a b c X
  | _ => False), (fun as X z Y => match as with
  | [a, b, c] => qM_reach a b c X z Y
  | _ => False))
def mM_reach : Mt_ := (LM, [(141, csM_badSize), (123, csM_findBest)], 1, EM_reach)
set_option maxRecDepth 100000 in
theorem sM_reach_0 {Rt : Int → St_ → Prop} {G : Nat → Lo_ → List Vl_ → St_ → Prop} (hG : Clo_ mM_reach Rt G) {X : St_} {node size lim : Int} (h : (node < 0 → Rt (-1) X) ∧ (0 ≤ node → (5 < node → Rt (-1) X) ∧ (node ≤ 5 → pM_badSize size X ∧ (∀ (z1 : Int) (Y1 : St_), qM_badSize size X z1 Y1 → (z1 = 0 → G 27 [some (.inr 27), some (.inl node), some (.inl size), some (.inl lim), some (.inl (zShl 1 node)), some (.inl 0)] [] Y1) ∧ (¬ z1 = 0 → Rt (-1) Y1))))) : G 0 [some (.inr 27), some (.inl node), some (.inl size), some (.inl lim)] [] X := run_ hG [(27, 6)] 15 0 _ _ X h
set_option maxRecDepth 100000 in
theorem sM_reach_27 {Rt : Int → St_ → Prop} {G : Nat → Lo_ → List Vl_ → St_ → Prop} (hG : Clo_ mM_reach Rt G) {X : St_} {node size lim set goal : Int} (h : (6 ≤ goal → Rt set X) ∧ (goal < 6 → (goal = node → zR (goal + 1) ∧ G 27 [some (.inr 27), some (.inl node), some (.inl size), some (.inl lim), some (.inl set), some (.inl (goal + 1))] [] X) ∧ (¬ goal = node → pM_findBest node (X 0 0) goal size X ∧ (∀ (z1 : Int) (Y1 : St_), qM_findBest node (X 0 0) goal size X z1 Y1 → (z1 = 0 → zR (goal + 1) ∧ G 27 [some (.inr 27), some (.inl node), some (.inl size), some (.inl lim), some (.inl set), some (.inl (goal + 1))] [] Y1) ∧ (¬ z1 = 0 → (lim < Y1 24 0 → zR (goal + 1) ∧ G 27 [some (.inr 27), some (.inl node), some (.inl size), some (.inl lim), some (.inl set), some (.inl (goal + 1))] [] Y1) ∧ (Y1 24 0 ≤ lim → zR (goal + 1) ∧ G 27 [some (.inr 27), some (.inl node), some (.inl size), some (.inl lim), some (.inl (zOr set (zShl 1 goal))), some (.inl (goal + 1))] [] Y1)))))) : G 27 [some (.inr 27), some (.inl node), some (.inl size), some (.inl lim), some (.inl set), some (.inl goal)] [] X := run_ hG [(27, 6)] 26 27 _ _ X h
theorem lM_reach {node size lim : Int} {X S0 : St_} {G : Nat → Lo_ → List Vl_ → St_ → Prop} (hG : Clo_ mM_reach (qM_reach node size lim X) G) (hR0 : R_ S0 X) (hI0 : IV_ S0 (fun _ => False)) (hn : 0 ≤ node ∧ node < 6) (hs : 1 ≤ size ∧ size ≤ 30) :
    ∀ (d v : Nat) (set : Int) (Z : St_), 6 = v + d → fr_ [18, 19, 20, 21, 22, 23, 24, 25, 26] X Z → (∀ S, R_ S X → IV_ S (fun _ => False) → set = rc_ S size node lim v) → G 27 [some (.inr 27), some (.inl node), some (.inl size), some (.inl lim), some (.inl set), some (.inl (v : Int))] [] Z := by
  have h19 := hI0.1.1.2.2.2.1
  intro d
  induction d with
  | zero =>
    intro v set Z hd hf hall
    have e : v = 6 := by omega
    subst e
    refine sM_reach_27 hG ⟨fun _ => ⟨hf, fun S hR hI => ?_⟩, fun h => by simp at h⟩
    unfold aRc_
    rw [if_pos ⟨hn, hs⟩]
    exact hall S hR hI
  | succ d ih =>
    intro v set Z hd hf hall
    have hRZ : ∀ S, R_ S X → R_ S Z := fun S hR => R_fr hR hf (by decide)
    have e19 : Z 0 0 = S0 19 0 := (hRZ S0 hR0).1.1
    refine sM_reach_27 hG ⟨fun h => by omega, fun h => ⟨fun he => ⟨by omega, ?_⟩, fun hne => ⟨⟨⟨S0, hRZ S0 hR0, hI0.1⟩, by omega, hs.1, hs.2⟩, ?_⟩⟩⟩
    · have q := ih (v + 1) set Z (by omega) hf (fun S hR hI => ?_)
      · push_cast at q; exact q
      · rw [rc_succ, if_neg (fun q => q.1 he)]
        exact hall S hR hI
    · intro z1 Y1 hq
      have key : ∀ S, R_ S X → IV_ S (fun _ => False) → (z1 = 0 ∧ ¬ ea_ S size node (S 19 0) 5 v < 1000000) ∨ (z1 = 1 ∧ ea_ S size node (S 19 0) 5 v < 1000000 ∧ Y1 24 0 = ea_ S size node (S 19 0) 5 v) := by
        intro S hR hI
        have e19 : Z 0 0 = S 19 0 := (hRZ S hR).1.1
        have hb := fB_ea hq (hRZ S hR) hI.1 hs.1 (by omega) (fun q => hne q.symm)
        rw [e19] at hb
        exact hb
      have hf1 := hf.trans hq.1
      refine ⟨fun h0 => ⟨by omega, ?_⟩, fun hz => ⟨fun hgt => ⟨by omega, ?_⟩, fun hle => ⟨by omega, ?_⟩⟩⟩
      · have q := ih (v + 1) set Y1 (by omega) hf1 (fun S hR hI => ?_)
        · push_cast at q; exact q
        · rw [rc_succ, if_neg (fun q => by rcases key S hR hI with ⟨-, a2⟩ | ⟨a1, -⟩ <;> omega)]
          exact hall S hR hI
      · have q := ih (v + 1) set Y1 (by omega) hf1 (fun S hR hI => ?_)
        · push_cast at q; exact q
        · rw [rc_succ, if_neg (fun q => by rcases key S hR hI with ⟨a1, -⟩ | ⟨-, a2, a3⟩ <;> omega)]
          exact hall S hR hI
      · have q := ih (v + 1) (zOr set (zShl 1 (v : Int))) Y1 (by omega) hf1 (fun S hR hI => ?_)
        · push_cast at q; exact q
        · rw [rc_succ, if_pos ⟨hne, by rcases key S hR hI with ⟨a1, -⟩ | ⟨-, a2, a3⟩ <;> omega, by rcases key S hR hI with ⟨a1, -⟩ | ⟨-, a2, a3⟩ <;> omega⟩, hall S hR hI]
theorem vM_reach {node size lim : Int} {X : St_} (r1 : zR node) (r2 : zR size) (r3 : zR lim) (hX : rgX_ X) (hp : pM_reach node size lim X) {G : Nat → Lo_ → List Vl_ → St_ → Prop} (hG : Clo_ mM_reach (qM_reach node size lim X) G) : G 0 [some (.inr 27), some (.inl node), some (.inl size), some (.inl lim)] [] X := by
  obtain ⟨S0, hR0, hI0⟩ := hp
  have bad : ¬ ((0 ≤ node ∧ node < 6) ∧ (1 ≤ size ∧ size ≤ 30)) → qM_reach node size lim X (-1) X := fun hno => ⟨fr_.refl _ _, fun S hR hI => by
    unfold aRc_
    rw [if_neg hno]⟩
  refine sM_reach_0 hG ⟨fun h => bad (by omega), fun h0 => ⟨fun h => bad (by omega), fun h5 => ⟨trivial, ?_⟩⟩⟩
  rintro z1 Y1 ⟨rfl, hz1, hi1⟩
  refine ⟨fun h => ?_, fun h => bad (fun q => h (hi1.mpr q.2))⟩
  exact lM_reach hG hR0 hI0 ⟨h0, by omega⟩ (hi1.mp h) 6 0 (zShl 1 node) Y1 rfl (fr_.refl _ _) (fun S _ _ => rfl)
theorem ckM_reach : ∀ q ∈ mM_reach.2.1, Ck_ 1 RX1 LM 4 q.1 q.2 := List.forall_mem_cons.mpr ⟨⟨yX1_badSize, cX1_badSize, 2, 0, okM_badSize, by decide, by decide, by decide +kernel, rfl, ⟨by decide, by decide⟩, lw_V q414 q416 qs30 q34 q417⟩, List.forall_mem_cons.mpr ⟨⟨yX1_findBest, cX1_findBest, 8, 3, okM_findBest, by decide, by decide, by decide +kernel, rfl, ⟨by decide, by decide⟩, lw_V q378 q380 qs24 q34 q381⟩, fun _ h => absurd h List.not_mem_nil⟩⟩
theorem okM_reach : Cn_ 1 LM yX1_reach cX1_reach 6 4 csM_reach := by
  refine Cn_of mM_reach KlM hfM (by decide +kernel) rfl rfl rfl hM_reach ckM_reach (Or.inl (by decide)) ?_
  intro as X hl hr hX hp G hG
  match as, hl with
  | [a, b, c], _ => exact vM_reach (hr _ (by simp)) (hr _ (by simp)) (hr _ (by simp)) hX hp hG
def pM_latest (e size lim : Int) (X : St_) : Prop := Mi_ X
def qM_latest (e size lim : Int) (X : St_) (z : Int) (Y : St_) : Prop := fr_ [18, 19, 20, 21, 22, 23, 24, 25, 26] X Y ∧ ∀ S, R_ S X → IV_ S (fun _ => False) → Lt_ S e size lim z
def csM_latest : Cs_ := (3, false, 1, (fun as X => match as with
  | [a, b, c] => pM_latest a b c X
  | _ => False), (fun as X z Y => match as with
  | [a, b, c] => qM_latest a b c X z Y
  | _ => False))
def mM_latest : Mt_ := (LM, [(131, csM_badEnds), (141, csM_badSize), (123, csM_findBest)], 1, EM_latest)
set_option maxRecDepth 100000 in
theorem sM_latest_0 {Rt : Int → St_ → Prop} {G : Nat → Lo_ → List Vl_ → St_ → Prop} (hG : Clo_ mM_latest Rt G) {X : St_} {e size lim : Int} (h : pM_badEnds e X ∧ (∀ (z1 : Int) (Y1 : St_), qM_badEnds e X z1 Y1 → (¬ z1 = 0 → Rt (-1) Y1) ∧ (z1 = 0 → pM_badSize size Y1 ∧ (∀ (z2 : Int) (Y2 : St_), qM_badSize size Y1 z2 Y2 → (z2 = 0 → G 22 [some (.inr 27), some (.inl e), some (.inl size), some (.inl lim), some (.inl 100)] [] Y2) ∧ (¬ z2 = 0 → Rt (-1) Y2))))) : G 0 [some (.inr 27), some (.inl e), some (.inl size), some (.inl lim)] [] X := run_ hG [(22, 5)] 10 0 _ _ X h
set_option maxRecDepth 100000 in
theorem sM_latest_22 {Rt : Int → St_ → Prop} {G : Nat → Lo_ → List Vl_ → St_ → Prop} (hG : Clo_ mM_latest Rt G) {X : St_} {e size lim t : Int} (h : (t < X 0 0 → Rt (-4) X) ∧ (X 0 0 ≤ t → 0 ≤ e ∧ 0 < (6 : Int) ∧ 0 ≤ e ∧ 0 < (6 : Int) ∧ pM_findBest (e / 6) t (e % 6) size X ∧ (∀ (z1 : Int) (Y1 : St_), qM_findBest (e / 6) t (e % 6) size X z1 Y1 → (z1 = 0 → zR (t + (-1)) ∧ G 22 [some (.inr 27), some (.inl e), some (.inl size), some (.inl lim), some (.inl (t + (-1)))] [] Y1) ∧ (¬ z1 = 0 → (lim < Y1 24 0 → zR (t + (-1)) ∧ G 22 [some (.inr 27), some (.inl e), some (.inl size), some (.inl lim), some (.inl (t + (-1)))] [] Y1) ∧ (Y1 24 0 ≤ lim → Rt t Y1))))) : G 22 [some (.inr 27), some (.inl e), some (.inl size), some (.inl lim), some (.inl t)] [] X := run_ hG [(22, 5)] 21 22 _ _ X h
theorem lM_latest {e size lim : Int} {X S0 : St_} {G : Nat → Lo_ → List Vl_ → St_ → Prop} (hG : Clo_ mM_latest (qM_latest e size lim X) G) (hR0 : R_ S0 X) (hI0 : IV_ S0 (fun _ => False)) (hOK : sdOK_ e size) :
    ∀ (d : Nat) (t : Int) (Z : St_), t - X 0 0 < d → t ≤ 100 → X 0 0 - 1 ≤ t ∨ t = 100 → fr_ [18, 19, 20, 21, 22, 23, 24, 25, 26] X Z → (∀ S, R_ S X → IV_ S (fun _ => False) → ∀ u, t < u → u ≤ 100 → ¬ it_ S e size lim u) → G 22 [some (.inr 27), some (.inl e), some (.inl size), some (.inl lim), some (.inl t)] [] Z := by
  have h19 := hI0.1.1.2.2.2.1
  have hX0 : X 0 0 = S0 19 0 := hR0.1.1
  have fin : ∀ (t : Int) (Z : St_), t < X 0 0 → fr_ [18, 19, 20, 21, 22, 23, 24, 25, 26] X Z → (∀ S, R_ S X → IV_ S (fun _ => False) → ∀ u, t < u → u ≤ 100 → ¬ it_ S e size lim u) → qM_latest e size lim X (-4) Z := by
    intro t Z hlt hf hall
    refine ⟨hf, fun S hR hI => Or.inl ⟨hOK, Or.inl ⟨rfl, fun u u0 u1 => hall S hR hI u ?_ u1⟩⟩⟩
    have := hR.1.1
    omega
  intro d
  induction d with
  | zero =>
    intro t Z hd ht hlo hf hall
    have z0 : Z 0 0 = X 0 0 := by rw [hf 0 (by decide)]
    exact sM_latest_22 hG ⟨fun h => fin t Z (by omega) hf hall, fun h => by omega⟩
  | succ d ih =>
    intro t Z hd ht hlo hf hall
    have z0 : Z 0 0 = X 0 0 := by rw [hf 0 (by decide)]
    have hRZ : ∀ S, R_ S X → R_ S Z := fun S hR => R_fr hR hf (by decide)
    refine sM_latest_22 hG ⟨fun h => fin t Z (by omega) hf hall, fun h => ⟨hOK.1.1, by omega, hOK.1.1, by omega, ⟨⟨S0, hRZ S0 hR0, hI0.1⟩, by omega, hOK.2.1, hOK.2.2⟩, ?_⟩⟩
    intro z1 Y1 hq
    have key : ∀ S, R_ S X → IV_ S (fun _ => False) → (z1 = 0 ∧ ¬ ea_ S size (e / 6) t 5 (e % 6) < 1000000) ∨ (z1 = 1 ∧ ea_ S size (e / 6) t 5 (e % 6) < 1000000 ∧ Y1 24 0 = ea_ S size (e / 6) t 5 (e % 6)) :=
      fun S hR hI => fB_ea hq (hRZ S hR) hI.1 hOK.2.1 (by omega) hOK.1.2.2
    have hf1 := hf.trans hq.1
    have next : (∀ S, R_ S X → IV_ S (fun _ => False) → ¬ it_ S e size lim t) → G 22 [some (.inr 27), some (.inl e), some (.inl size), some (.inl lim), some (.inl (t + (-1)))] [] Y1 := by
      intro hno
      refine ih (t + (-1)) Y1 (by omega) (by omega) (by omega) hf1 (fun S hR hI u u0 u1 => ?_)
      by_cases eu : u = t
      · rw [eu]; exact hno S hR hI
      · exact hall S hR hI u (by omega) u1
    refine ⟨fun h0 => ⟨by omega, next (fun S hR hI q => ?_)⟩, fun hz => ⟨fun hgt => ⟨by omega, next (fun S hR hI q => ?_)⟩, fun hle => ⟨hf1, fun S hR hI => ?_⟩⟩⟩
    · rcases key S hR hI with ⟨-, a2⟩ | ⟨a1, -⟩
      · exact a2 q.1
      · omega
    · have q2 := q.2
      rcases key S hR hI with ⟨a1, -⟩ | ⟨-, a2, a3⟩
      · exact hz a1
      · omega
    · have e0 := hR.1.1
      refine Or.inl ⟨hOK, Or.inr ⟨by omega, ht, ?_, hall S hR hI⟩⟩
      rcases key S hR hI with ⟨a1, -⟩ | ⟨-, a2, a3⟩
      · exact absurd a1 hz
      · exact ⟨a2, by omega⟩
theorem vM_latest {e size lim : Int} {X : St_} (r1 : zR e) (r2 : zR size) (r3 : zR lim) (hX : rgX_ X) (hp : pM_latest e size lim X) {G : Nat → Lo_ → List Vl_ → St_ → Prop} (hG : Clo_ mM_latest (qM_latest e size lim X) G) : G 0 [some (.inr 27), some (.inl e), some (.inl size), some (.inl lim)] [] X := by
  obtain ⟨S0, hR0, hI0⟩ := hp
  have h19 := hI0.1.1.2.2.2.1
  have hX0 : X 0 0 = S0 19 0 := hR0.1.1
  have bad : ¬ sdOK_ e size → qM_latest e size lim X (-1) X := fun hno => ⟨fr_.refl _ _, fun S hR hI => Or.inr ⟨hno, rfl⟩⟩
  refine sM_latest_0 hG ⟨trivial, ?_⟩
  rintro z1 Y1 ⟨rfl, hz1, hi1⟩
  refine ⟨fun h => bad (fun q => h (hi1.mpr q.1)), fun h => ⟨trivial, ?_⟩⟩
  have k1 := hi1.mp h
  rintro z2 Y2 ⟨rfl, hz2, hi2⟩
  refine ⟨fun h => ?_, fun h => bad (fun q => h (hi2.mpr q.2))⟩
  have k2 := hi2.mp h
  exact lM_latest hG hR0 hI0 ⟨k1, k2⟩ 101 100 Y2 (by omega) (by omega) (Or.inr rfl) (fr_.refl _ _) (fun S hR hI u u0 u1 => by omega)
theorem ckM_latest : ∀ q ∈ mM_latest.2.1, Ck_ 1 RX1 LM 4 q.1 q.2 := List.forall_mem_cons.mpr ⟨⟨yX1_badEnds, cX1_badEnds, 2, 0, okM_badEnds, by decide, by decide, by decide +kernel, rfl, ⟨by decide, by decide⟩, lw_V q350 q352 qs17 q34 q353⟩, List.forall_mem_cons.mpr ⟨⟨yX1_badSize, cX1_badSize, 2, 0, okM_badSize, by decide, by decide, by decide +kernel, rfl, ⟨by decide, by decide⟩, lw_V q414 q416 qs30 q34 q417⟩, List.forall_mem_cons.mpr ⟨⟨yX1_findBest, cX1_findBest, 8, 3, okM_findBest, by decide, by decide, by decide +kernel, rfl, ⟨by decide, by decide⟩, lw_V q378 q380 qs24 q34 q381⟩, fun _ h => absurd h List.not_mem_nil⟩⟩⟩
theorem okM_latest : Cn_ 1 LM yX1_latest cX1_latest 5 4 csM_latest := by
  refine Cn_of mM_latest KlM hfM (by decide +kernel) rfl rfl rfl hM_latest ckM_latest (Or.inl (by decide)) ?_
  intro as X hl hr hX hp G hG
  match as, hl with
  | [a, b, c], _ => exact vM_latest (hr _ (by simp)) (hr _ (by simp)) (hr _ (by simp)) hX hp hG
end
section
/-! THE CONSTRUCTORS: one array after another (rows printed by tools/gen_init.py) -/
/-- an object's fields when the arrays of the fields ks are made; its world -/
def ifs_ (adr : Nat → Nat) (L : Ly_) (ks : List Nat) : List Value := (List.range L.1).map fun k => if k ∈ ks then .ref (adr k) else match L.2.1 k with
  | none => .int (zI 0)
  | some _ => .null
def iw_ (dd : ClassId × ClassId) (adr : Nat → Nat) (ci : Nat) (L : Ly_) (ks : List Nat) : va_W := (adr L.1, .inr (ci, ifs_ adr L ks)) :: ks.map (ac_ dd adr L (fun _ _ => 0))
theorem ifs_len {adr : Nat → Nat} {L : Ly_} {ks : List Nat} : (ifs_ adr L ks).length = L.1 := by
  unfold ifs_
  rw [List.length_map, List.length_range]
theorem ifs_get {adr : Nat → Nat} {L : Ly_} {ks : List Nat} {k : Nat} (hk : k < L.1) : (ifs_ adr L ks)[k]? = some (if k ∈ ks then .ref (adr k) else match L.2.1 k with
  | none => .int (zI 0)
  | some _ => .null) := by
  unfold ifs_
  rw [List.getElem?_map, List.getElem?_range hk]
  rfl
theorem ifs_set {adr : Nat → Nat} {L : Ly_} {ks : List Nat} {k q : Nat} (hk : k < L.1) : (ifs_ adr L ks).set k (.ref q) = ifs_ (fun j => if j = k then q else adr j) L (ks ++ [k]) := by
  apply List.ext_getElem?
  intro j
  by_cases hj : j < L.1
  · rw [ifs_get hj]
    by_cases e : j = k
    · subst e
      rw [List.getElem?_set_self (by rw [ifs_len]; exact hk), if_pos (List.mem_append_right _ List.mem_cons_self), if_pos rfl]
    · rw [List.getElem?_set_ne (fun z => e z.symm), ifs_get hj]
      by_cases hm : j ∈ ks
      · rw [if_pos hm, if_pos (List.mem_append_left _ hm), if_neg e]
      · have hm2 : j ∉ ks ++ [k] := by
          intro z
          rcases List.mem_append.mp z with z | z
          · exact hm z
          · exact e (List.mem_singleton.mp z)
        rw [if_neg hm, if_neg hm2]
  · rw [List.getElem?_eq_none (by rw [List.length_set, ifs_len]; omega), List.getElem?_eq_none (by rw [ifs_len]; omega)]
theorem iw_step {dd : ClassId × ClassId} {adr : Nat → Nat} {ci : Nat} {L : Ly_} {ks : List Nat} {k q n : Nat} {bl : Bool} {cA : ClassId} (hk : k < L.1) (hks : k ∉ ks) (hkd : L.2.1 k = some (bl, n)) (hc : cA = bif bl then dd.2 else dd.1) :
    (iw_ dd adr ci L ks ++ ([(q, .inl (cA, n, .inl fun _ => zI 0))] : va_W)).set 0 (adr L.1, .inr (ci, (ifs_ adr L ks).set k (.ref q))) = iw_ dd (fun j => if j = k then q else adr j) ci L (ks ++ [k]) := by
  unfold iw_
  rw [List.cons_append, List.set_cons_zero, ifs_set hk, List.map_append]
  dsimp only
  rw [if_neg (show ¬ L.1 = k by omega)]
  congr 1
  congr 1
  · apply List.map_congr_left
    intro j hj
    have : j ≠ k := fun z => hks (z ▸ hj)
    unfold ac_
    dsimp only
    rw [if_neg this]
  · unfold ac_
    rw [hc]
    simp [hkd]
theorem iw_full {dd : ClassId × ClassId} {adr : Nat → Nat} {ci : Nat} {L : Ly_} : iw_ dd adr ci L (ar_ L) = wd_ dd adr ci L (fun _ _ => 0) := by
  unfold iw_ wd_
  congr 4
  unfold ifs_ fs_
  apply List.map_congr_left
  intro k hk
  have hk := List.mem_range.mp hk
  cases h : L.2.1 k with
  | none =>
    have : k ∉ ar_ L := fun z => by
      have := (ar_mem.mp z).2
      rw [h] at this
      simp at this
    rw [if_neg this]
  | some b => rw [if_pos (ar_mem.mpr ⟨hk, by rw [h]; rfl⟩)]
section IN
variable {p : Program} {l : Launch} {e : Env} {R : Room} {s : State} {m : MethodId} {args : Array Value} {below : List Frame} {meth : Method} {c : Code} {H : Heap} {locs : List Loc} {D : va_G} {dd : ClassId × ClassId} {adr : Nat → Nat} {ci : Nat} {C : String} {T : u_T} {L : Ly_} {Q : State → Prop} {cc : ByteArray} {pc : Nat} {ls : Array Slot} {rest : List Value} {A : Nat → Prop} {cells slots cells' slots' : Nat}
set_option maxHeartbeats 1000000 in
theorem in_row (hx : p.tables.exec = Jvm.exec) (hb : c.code = cc) (hKl : Kl_ ci C T L) (hts : ∀ w ∈ lw_all, w.before args s = true) (hown : s.vm.findClass C = some m.cls) (hin : meth.name = "<init>") (hK : va_K D vwCl (ty2_ dd) s) (hA : ∀ q, s.heap.size ≤ q → A q) {h0 : Nat} (ha : adr L.1 = h0)
    (ks ks' : List Nat) (k n idx : Nat) (bl : Bool) (hks' : ks ++ [k] = ks') (hkd : L.2.1 k = some (bl, n)) (hidx : lk_ L.2.2.1 idx = some k) (hks : k ∉ ks) (hfin : (T k).2.2.2 = true) (hdecl : (T k).1 = C) (hdesc : parseFieldDescriptor (T k).2.2.1 = some (.array (bif bl then .boolean else .int)))
    {v : Int32} (hv0 : ¬ v < 0) (hvn : v.toNatClampNeg = n) (hn : n ≤ 10000) (hc : cells + 1 = cells') (hs : slots + n = slots') (hcR : cells' ≤ R.cells) (hsR : slots' ≤ R.slots)
    (hP : va_P D vwCl (iw_ dd adr ci L ks) H) (hD : va_D A (iw_ dd adr ci L ks)) (hS : va_S A s.heap H locs) (hd1 : decode cc pc = .ok (.newarray (bif bl then .boolean else .int), 2)) (hd2 : decode cc (pc + 2) = .ok (.putfield idx, 3))
    (kk : ∀ (adr' : Nat → Nat) (H1 : Heap) (locs1 : List Loc), adr' L.1 = h0 → va_P D vwCl (iw_ dd adr' ci L ks') H1 → va_D A (iw_ dd adr' ci L ks') → va_S A s.heap H1 locs1 → W p l e R s m args below meth c H1 locs1 cells' slots' Q (F0 m (pc + 5) ls rest)) :
    W p l e R s m args below meth c H locs cells slots Q (F0 m pc ls (.int v :: .ref h0 :: rest)) := by
  subst hc
  subst hs
  subst ha
  subst hks'
  obtain ⟨a1, a2, ⟨ty, a3, a3'⟩, a4, a5, a6, -⟩ := hKl
  obtain ⟨g1, g2⟩ := a6 (idx, k) (lk_mem hidx)
  have harr : (Cond.arrayClass (newarray.typeOf (bif bl then .boolean else .int))).before args s = true := by
    cases bl
    · exact hts _ q120
    · exact hts _ q119
  have hty : newarray.typeOf (bif bl then .boolean else .int) = (bif bl then .boolean else .int) := by cases bl <;> rfl
  refine va_newa (a0 := (n, .inl fun _ => zI 0)) hx hb harr hty hK hP hD hS hA (fun cA => ?_) hv0 hvn ?_ hcR hsR hd1 (fun q cA H1 hK1 hP1 hD1 hS1 => ?_)
  · rw [vp_cell_i, zI_0]
    cases bl <;> rfl
  · cases bl
    · show n * 4 ≤ 536870912
      omega
    · show n * 1 ≤ 536870912
      omega
  have hcA : cA = bif bl then dd.2 else dd.1 := by
    have q2 := (hK1.2 2 (cA, bif bl then .boolean else .int) rfl).2
    cases bl
    · exact Option.some.inj (q2.symm.trans (hK.2 0 (dd.1, .int) rfl).2)
    · exact Option.some.inj (q2.symm.trans (hK.2 1 (dd.2, .boolean) rfl).2)
  refine va_putF (v := .ref q) (ty := .array (bif bl then .boolean else .int)) hx hb hts a2 ty a3 a4 hown hK hP1 hD1 hS1 0 rfl a1 k g1 (hts _ g2) (fun _ h9 => h9) hfin hin hdecl hdesc rfl rfl (by rw [ifs_len]; exact g1) hd2 (fun H2 locs2 hP2 hD2 hS2 => ?_)
  rw [iw_step g1 hks hkd hcA] at hP2 hD2
  exact kk _ H2 locs2 (if_neg (by omega)) hP2 hD2 hS2
end IN
theorem dX0_init_0 : decode cX0_init 0 = .ok (.aload_n 0, 1) := by decide +kernel
theorem dX0_init_1 : decode cX0_init 1 = .ok (.invokespecial 1, 3) := by decide +kernel
theorem dX0_init_4 : decode cX0_init 4 = .ok (.aload_n 0, 1) := by decide +kernel
theorem dX0_init_5 : decode cX0_init 5 = .ok (.bipush 10, 2) := by decide +kernel
theorem dX0_init_7 : decode cX0_init 7 = .ok (.newarray .boolean, 2) := by decide +kernel
theorem dX0_init_9 : decode cX0_init 9 = .ok (.putfield 7, 3) := by decide +kernel
theorem dX0_init_12 : decode cX0_init 12 = .ok (.aload_n 0, 1) := by decide +kernel
theorem dX0_init_13 : decode cX0_init 13 = .ok (.bipush 10, 2) := by decide +kernel
theorem dX0_init_15 : decode cX0_init 15 = .ok (.newarray .int, 2) := by decide +kernel
theorem dX0_init_17 : decode cX0_init 17 = .ok (.putfield 13, 3) := by decide +kernel
theorem dX0_init_20 : decode cX0_init 20 = .ok (.aload_n 0, 1) := by decide +kernel
theorem dX0_init_21 : decode cX0_init 21 = .ok (.bipush 10, 2) := by decide +kernel
theorem dX0_init_23 : decode cX0_init 23 = .ok (.newarray .int, 2) := by decide +kernel
theorem dX0_init_25 : decode cX0_init 25 = .ok (.putfield 17, 3) := by decide +kernel
theorem dX0_init_28 : decode cX0_init 28 = .ok (.aload_n 0, 1) := by decide +kernel
theorem dX0_init_29 : decode cX0_init 29 = .ok (.bipush 10, 2) := by decide +kernel
theorem dX0_init_31 : decode cX0_init 31 = .ok (.newarray .int, 2) := by decide +kernel
theorem dX0_init_33 : decode cX0_init 33 = .ok (.putfield 20, 3) := by decide +kernel
theorem dX0_init_36 : decode cX0_init 36 = .ok (.aload_n 0, 1) := by decide +kernel
theorem dX0_init_37 : decode cX0_init 37 = .ok (.bipush 10, 2) := by decide +kernel
theorem dX0_init_39 : decode cX0_init 39 = .ok (.newarray .int, 2) := by decide +kernel
theorem dX0_init_41 : decode cX0_init 41 = .ok (.putfield 23, 3) := by decide +kernel
theorem dX0_init_44 : decode cX0_init 44 = .ok (.aload_n 0, 1) := by decide +kernel
theorem dX0_init_45 : decode cX0_init 45 = .ok (.bipush 10, 2) := by decide +kernel
theorem dX0_init_47 : decode cX0_init 47 = .ok (.newarray .int, 2) := by decide +kernel
theorem dX0_init_49 : decode cX0_init 49 = .ok (.putfield 26, 3) := by decide +kernel
theorem dX0_init_52 : decode cX0_init 52 = .ok (.aload_n 0, 1) := by decide +kernel
theorem dX0_init_53 : decode cX0_init 53 = .ok (.bipush 10, 2) := by decide +kernel
theorem dX0_init_55 : decode cX0_init 55 = .ok (.newarray .int, 2) := by decide +kernel
theorem dX0_init_57 : decode cX0_init 57 = .ok (.putfield 29, 3) := by decide +kernel
theorem dX0_init_60 : decode cX0_init 60 = .ok (.aload_n 0, 1) := by decide +kernel
theorem dX0_init_61 : decode cX0_init 61 = .ok (.sipush 1010, 3) := by decide +kernel
theorem dX0_init_64 : decode cX0_init 64 = .ok (.newarray .boolean, 2) := by decide +kernel
theorem dX0_init_66 : decode cX0_init 66 = .ok (.putfield 32, 3) := by decide +kernel
theorem dX0_init_69 : decode cX0_init 69 = .ok (.aload_n 0, 1) := by decide +kernel
theorem dX0_init_70 : decode cX0_init 70 = .ok (.bipush 10, 2) := by decide +kernel
theorem dX0_init_72 : decode cX0_init 72 = .ok (.newarray .int, 2) := by decide +kernel
theorem dX0_init_74 : decode cX0_init 74 = .ok (.putfield 35, 3) := by decide +kernel
theorem dX0_init_77 : decode cX0_init 77 = .ok (.aload_n 0, 1) := by decide +kernel
theorem dX0_init_78 : decode cX0_init 78 = .ok (.bipush 10, 2) := by decide +kernel
theorem dX0_init_80 : decode cX0_init 80 = .ok (.newarray .int, 2) := by decide +kernel
theorem dX0_init_82 : decode cX0_init 82 = .ok (.putfield 38, 3) := by decide +kernel
theorem dX0_init_85 : decode cX0_init 85 = .ok (.aload_n 0, 1) := by decide +kernel
theorem dX0_init_86 : decode cX0_init 86 = .ok (.bipush 10, 2) := by decide +kernel
theorem dX0_init_88 : decode cX0_init 88 = .ok (.newarray .int, 2) := by decide +kernel
theorem dX0_init_90 : decode cX0_init 90 = .ok (.putfield 41, 3) := by decide +kernel
theorem dX0_init_93 : decode cX0_init 93 = .ok (.aload_n 0, 1) := by decide +kernel
theorem dX0_init_94 : decode cX0_init 94 = .ok (.bipush 10, 2) := by decide +kernel
theorem dX0_init_96 : decode cX0_init 96 = .ok (.newarray .int, 2) := by decide +kernel
theorem dX0_init_98 : decode cX0_init 98 = .ok (.putfield 44, 3) := by decide +kernel
theorem dX0_init_101 : decode cX0_init 101 = .ok (.aload_n 0, 1) := by decide +kernel
theorem dX0_init_102 : decode cX0_init 102 = .ok (.bipush 10, 2) := by decide +kernel
theorem dX0_init_104 : decode cX0_init 104 = .ok (.newarray .boolean, 2) := by decide +kernel
theorem dX0_init_106 : decode cX0_init 106 = .ok (.putfield 47, 3) := by decide +kernel
theorem dX0_init_109 : decode cX0_init 109 = .ok (.aload_n 0, 1) := by decide +kernel
theorem dX0_init_110 : decode cX0_init 110 = .ok (.bipush 10, 2) := by decide +kernel
theorem dX0_init_112 : decode cX0_init 112 = .ok (.newarray .boolean, 2) := by decide +kernel
theorem dX0_init_114 : decode cX0_init 114 = .ok (.putfield 50, 3) := by decide +kernel
theorem dX0_init_117 : decode cX0_init 117 = .ok (.aload_n 0, 1) := by decide +kernel
theorem dX0_init_118 : decode cX0_init 118 = .ok (.bipush 10, 2) := by decide +kernel
theorem dX0_init_120 : decode cX0_init 120 = .ok (.newarray .int, 2) := by decide +kernel
theorem dX0_init_122 : decode cX0_init 122 = .ok (.putfield 53, 3) := by decide +kernel
theorem dX0_init_125 : decode cX0_init 125 = .ok (.aload_n 0, 1) := by decide +kernel
theorem dX0_init_126 : decode cX0_init 126 = .ok (.sipush 1000, 3) := by decide +kernel
theorem dX0_init_129 : decode cX0_init 129 = .ok (.newarray .int, 2) := by decide +kernel
theorem dX0_init_131 : decode cX0_init 131 = .ok (.putfield 56, 3) := by decide +kernel
theorem dX0_init_134 : decode cX0_init 134 = .ok (.aload_n 0, 1) := by decide +kernel
theorem dX0_init_135 : decode cX0_init 135 = .ok (.sipush 1000, 3) := by decide +kernel
theorem dX0_init_138 : decode cX0_init 138 = .ok (.newarray .int, 2) := by decide +kernel
theorem dX0_init_140 : decode cX0_init 140 = .ok (.putfield 59, 3) := by decide +kernel
theorem dX0_init_143 : decode cX0_init 143 = .ok (.aload_n 0, 1) := by decide +kernel
theorem dX0_init_144 : decode cX0_init 144 = .ok (.iconst 5, 1) := by decide +kernel
theorem dX0_init_145 : decode cX0_init 145 = .ok (.newarray .int, 2) := by decide +kernel
theorem dX0_init_147 : decode cX0_init 147 = .ok (.putfield 62, 3) := by decide +kernel
theorem dX0_init_150 : decode cX0_init 150 = .ok (.aload_n 0, 1) := by decide +kernel
theorem dX0_init_151 : decode cX0_init 151 = .ok (.iconst 5, 1) := by decide +kernel
theorem dX0_init_152 : decode cX0_init 152 = .ok (.newarray .int, 2) := by decide +kernel
theorem dX0_init_154 : decode cX0_init 154 = .ok (.putfield 65, 3) := by decide +kernel
theorem dX0_init_157 : decode cX0_init 157 = .ok (.aload_n 0, 1) := by decide +kernel
theorem dX0_init_158 : decode cX0_init 158 = .ok (.bipush 6, 2) := by decide +kernel
theorem dX0_init_160 : decode cX0_init 160 = .ok (.newarray .int, 2) := by decide +kernel
theorem dX0_init_162 : decode cX0_init 162 = .ok (.putfield 68, 3) := by decide +kernel
theorem dX0_init_165 : decode cX0_init 165 = .ok (.aload_n 0, 1) := by decide +kernel
theorem dX0_init_166 : decode cX0_init 166 = .ok (.bipush 6, 2) := by decide +kernel
theorem dX0_init_168 : decode cX0_init 168 = .ok (.newarray .int, 2) := by decide +kernel
theorem dX0_init_170 : decode cX0_init 170 = .ok (.putfield 71, 3) := by decide +kernel
theorem dX0_init_173 : decode cX0_init 173 = .ok (.aload_n 0, 1) := by decide +kernel
theorem dX0_init_174 : decode cX0_init 174 = .ok (.iconst 0, 1) := by decide +kernel
theorem dX0_init_175 : decode cX0_init 175 = .ok (.putfield 74, 3) := by decide +kernel
theorem dX0_init_178 : decode cX0_init 178 = .ok (.return_, 1) := by decide +kernel
set_option maxHeartbeats 4000000 in
set_option maxRecDepth 100000 in
theorem iX_init (l : Launch) (D : va_G) (dd : ClassId × ClassId) (h0 sz : Nat) : Met l yX0_init (ws_ yX0_init cX0_init 1 none) { frames := 1, cells := 21, slots := 3172, locals := 40 } (va_Pc [.ref h0] (fun U => U.heap.size = sz ∧ va_P D vwCl (iw_ dd (fun _ => h0) 0 LX []) U.heap ∧ va_K D vwCl (ty2_ dd) U)) (va_Qv (fun _ : Nat → Nat => True) (fun adr t => adr LX.1 = h0 ∧ va_P D vwCl (wd_ dd adr 0 LX (fun _ _ => 0)) t.heap ∧ va_D (fun q : Nat => q = h0 ∨ sz ≤ q) (wd_ dd adr 0 LX (fun _ _ => 0)) ∧ va_K D vwCl (ty2_ dd) t) (fun q : Nat => q = h0 ∨ sz ≤ q)) 21 3172 (fun q : Nat => q = h0 ∨ sz ≤ q) := by
  refine Met.ofW (cc := cX0_init) (maxL := 1) (ret := none) (by decide) rfl ?_
  intro p e s m args below meth c s₁ B hml hv
  obtain ⟨rfl, hsz, hP, hK⟩ := hv
  have hx := B.exec
  have hb := B.bytes
  have hr := B.returns
  have hts := atoms_spec (ws := ws_ yX0_init cX0_init 1 none) B.pre
  have hts : ∀ w ∈ lw_all, w.before _ s = true := fun w h => hts w (List.mem_cons_of_mem _ h)
  have hown : s.vm.findClass RX0 = some m.cls := findClass_of_methodNamed B.named
  have hlocks := B.notSynchronized
  have hin : meth.name = "<init>" := (name_of_methodNamed B.named B.method).1
  subst hsz
  have hD : va_D (fun q : Nat => q = h0 ∨ s.heap.size ≤ q) (iw_ dd (fun _ => h0) 0 LX []) := by
    refine ⟨fun i j x y hx hy _ => ?_, fun k q hq => ?_⟩
    · have := (List.getElem?_eq_some_iff.mp hx).1
      have := (List.getElem?_eq_some_iff.mp hy).1
      simp [iw_] at *
      omega
    · have hk : k < 1 := (List.getElem?_eq_some_iff.mp hq).1
      have hk : k = 0 := by omega
      subst hk
      cases hq
      exact Or.inl rfl
  have hA : ∀ q : Nat, s.heap.size ≤ q → (fun q : Nat => q = h0 ∨ s.heap.size ≤ q) q := fun q h => Or.inr h
  have hS : va_S (fun q : Nat => q = h0 ∨ s.heap.size ≤ q) s.heap s.heap [] := va_S.rf
  have ha : (fun _ : Nat => h0) LX.1 = h0 := rfl
  have hl := lv_entry ([.ref h0]) (n := 1) (Nat.le_of_ble_eq_true rfl)
  rw [lg_entry_eq]
  generalize (lg_sl ([.ref h0]) ++ List.replicate (1 - (lg_sl ([.ref h0])).length) Slot.unset).toArray = ls at hl ⊢
  have hl : lv_has ls 1 [(0, .ref h0)] := hl
  refine lv_aload_n hx hb dX0_init_0 rfl (lv_at hl 0 rfl) ?_
  refine W.objInit hx hb hown (hts _ q40) (hts _ q41) (hts _ q42) rfl (by rw [hml]; exact hl.1) rfl dX0_init_1 (Nat.le_of_ble_eq_true rfl) (Nat.le_of_ble_eq_true rfl) ?_
  refine W.eq (g2 := F0 m 4 ls []) rfl ?_
  refine lv_aload_n hx hb dX0_init_4 rfl (lv_at hl 0 rfl) ?_
  refine lv_bipush (v := 10) hx hb dX0_init_5 (by decide) ?_
  refine in_row (cells' := 1) (slots' := 10) hx hb KlX hts hown hin hK hA ha [] [1] 1 10 7 true rfl rfl rfl (by decide) rfl rfl (by decide +kernel) (by decide) (by decide) (by decide) rfl rfl (Nat.le_of_ble_eq_true rfl) (Nat.le_of_ble_eq_true rfl) hP hD hS dX0_init_7 dX0_init_9 (fun adr H locs ha hP hD hS => ?_)
  refine lv_aload_n hx hb dX0_init_12 rfl (lv_at hl 0 rfl) ?_
  refine lv_bipush (v := 10) hx hb dX0_init_13 (by decide) ?_
  refine in_row (cells' := 2) (slots' := 20) hx hb KlX hts hown hin hK hA ha [1] [1, 2] 2 10 13 false rfl rfl rfl (by decide) rfl rfl (by decide +kernel) (by decide) (by decide) (by decide) rfl rfl (Nat.le_of_ble_eq_true rfl) (Nat.le_of_ble_eq_true rfl) hP hD hS dX0_init_15 dX0_init_17 (fun adr H locs ha hP hD hS => ?_)
  refine lv_aload_n hx hb dX0_init_20 rfl (lv_at hl 0 rfl) ?_
  refine lv_bipush (v := 10) hx hb dX0_init_21 (by decide) ?_
  refine in_row (cells' := 3) (slots' := 30) hx hb KlX hts hown hin hK hA ha [1, 2] [1, 2, 3] 3 10 17 false rfl rfl rfl (by decide) rfl rfl (by decide +kernel) (by decide) (by decide) (by decide) rfl rfl (Nat.le_of_ble_eq_true rfl) (Nat.le_of_ble_eq_true rfl) hP hD hS dX0_init_23 dX0_init_25 (fun adr H locs ha hP hD hS => ?_)
  refine lv_aload_n hx hb dX0_init_28 rfl (lv_at hl 0 rfl) ?_
  refine lv_bipush (v := 10) hx hb dX0_init_29 (by decide) ?_
  refine in_row (cells' := 4) (slots' := 40) hx hb KlX hts hown hin hK hA ha [1, 2, 3] [1, 2, 3, 4] 4 10 20 false rfl rfl rfl (by decide) rfl rfl (by decide +kernel) (by decide) (by decide) (by decide) rfl rfl (Nat.le_of_ble_eq_true rfl) (Nat.le_of_ble_eq_true rfl) hP hD hS dX0_init_31 dX0_init_33 (fun adr H locs ha hP hD hS => ?_)
  refine lv_aload_n hx hb dX0_init_36 rfl (lv_at hl 0 rfl) ?_
  refine lv_bipush (v := 10) hx hb dX0_init_37 (by decide) ?_
  refine in_row (cells' := 5) (slots' := 50) hx hb KlX hts hown hin hK hA ha [1, 2, 3, 4] [1, 2, 3, 4, 5] 5 10 23 false rfl rfl rfl (by decide) rfl rfl (by decide +kernel) (by decide) (by decide) (by decide) rfl rfl (Nat.le_of_ble_eq_true rfl) (Nat.le_of_ble_eq_true rfl) hP hD hS dX0_init_39 dX0_init_41 (fun adr H locs ha hP hD hS => ?_)
  refine lv_aload_n hx hb dX0_init_44 rfl (lv_at hl 0 rfl) ?_
  refine lv_bipush (v := 10) hx hb dX0_init_45 (by decide) ?_
  refine in_row (cells' := 6) (slots' := 60) hx hb KlX hts hown hin hK hA ha [1, 2, 3, 4, 5] [1, 2, 3, 4, 5, 6] 6 10 26 false rfl rfl rfl (by decide) rfl rfl (by decide +kernel) (by decide) (by decide) (by decide) rfl rfl (Nat.le_of_ble_eq_true rfl) (Nat.le_of_ble_eq_true rfl) hP hD hS dX0_init_47 dX0_init_49 (fun adr H locs ha hP hD hS => ?_)
  refine lv_aload_n hx hb dX0_init_52 rfl (lv_at hl 0 rfl) ?_
  refine lv_bipush (v := 10) hx hb dX0_init_53 (by decide) ?_
  refine in_row (cells' := 7) (slots' := 70) hx hb KlX hts hown hin hK hA ha [1, 2, 3, 4, 5, 6] [1, 2, 3, 4, 5, 6, 7] 7 10 29 false rfl rfl rfl (by decide) rfl rfl (by decide +kernel) (by decide) (by decide) (by decide) rfl rfl (Nat.le_of_ble_eq_true rfl) (Nat.le_of_ble_eq_true rfl) hP hD hS dX0_init_55 dX0_init_57 (fun adr H locs ha hP hD hS => ?_)
  refine lv_aload_n hx hb dX0_init_60 rfl (lv_at hl 0 rfl) ?_
  refine lv_sipush (v := 1010) hx hb dX0_init_61 (by decide) ?_
  refine in_row (cells' := 8) (slots' := 1080) hx hb KlX hts hown hin hK hA ha [1, 2, 3, 4, 5, 6, 7] [1, 2, 3, 4, 5, 6, 7, 8] 8 1010 32 true rfl rfl rfl (by decide) rfl rfl (by decide +kernel) (by decide) (by decide) (by decide) rfl rfl (Nat.le_of_ble_eq_true rfl) (Nat.le_of_ble_eq_true rfl) hP hD hS dX0_init_64 dX0_init_66 (fun adr H locs ha hP hD hS => ?_)
  refine lv_aload_n hx hb dX0_init_69 rfl (lv_at hl 0 rfl) ?_
  refine lv_bipush (v := 10) hx hb dX0_init_70 (by decide) ?_
  refine in_row (cells' := 9) (slots' := 1090) hx hb KlX hts hown hin hK hA ha [1, 2, 3, 4, 5, 6, 7, 8] [1, 2, 3, 4, 5, 6, 7, 8, 10] 10 10 35 false rfl rfl rfl (by decide) rfl rfl (by decide +kernel) (by decide) (by decide) (by decide) rfl rfl (Nat.le_of_ble_eq_true rfl) (Nat.le_of_ble_eq_true rfl) hP hD hS dX0_init_72 dX0_init_74 (fun adr H locs ha hP hD hS => ?_)
  refine lv_aload_n hx hb dX0_init_77 rfl (lv_at hl 0 rfl) ?_
  refine lv_bipush (v := 10) hx hb dX0_init_78 (by decide) ?_
  refine in_row (cells' := 10) (slots' := 1100) hx hb KlX hts hown hin hK hA ha [1, 2, 3, 4, 5, 6, 7, 8, 10] [1, 2, 3, 4, 5, 6, 7, 8, 10, 11] 11 10 38 false rfl rfl rfl (by decide) rfl rfl (by decide +kernel) (by decide) (by decide) (by decide) rfl rfl (Nat.le_of_ble_eq_true rfl) (Nat.le_of_ble_eq_true rfl) hP hD hS dX0_init_80 dX0_init_82 (fun adr H locs ha hP hD hS => ?_)
  refine lv_aload_n hx hb dX0_init_85 rfl (lv_at hl 0 rfl) ?_
  refine lv_bipush (v := 10) hx hb dX0_init_86 (by decide) ?_
  refine in_row (cells' := 11) (slots' := 1110) hx hb KlX hts hown hin hK hA ha [1, 2, 3, 4, 5, 6, 7, 8, 10, 11] [1, 2, 3, 4, 5, 6, 7, 8, 10, 11, 12] 12 10 41 false rfl rfl rfl (by decide) rfl rfl (by decide +kernel) (by decide) (by decide) (by decide) rfl rfl (Nat.le_of_ble_eq_true rfl) (Nat.le_of_ble_eq_true rfl) hP hD hS dX0_init_88 dX0_init_90 (fun adr H locs ha hP hD hS => ?_)
  refine lv_aload_n hx hb dX0_init_93 rfl (lv_at hl 0 rfl) ?_
  refine lv_bipush (v := 10) hx hb dX0_init_94 (by decide) ?_
  refine in_row (cells' := 12) (slots' := 1120) hx hb KlX hts hown hin hK hA ha [1, 2, 3, 4, 5, 6, 7, 8, 10, 11, 12] [1, 2, 3, 4, 5, 6, 7, 8, 10, 11, 12, 13] 13 10 44 false rfl rfl rfl (by decide) rfl rfl (by decide +kernel) (by decide) (by decide) (by decide) rfl rfl (Nat.le_of_ble_eq_true rfl) (Nat.le_of_ble_eq_true rfl) hP hD hS dX0_init_96 dX0_init_98 (fun adr H locs ha hP hD hS => ?_)
  refine lv_aload_n hx hb dX0_init_101 rfl (lv_at hl 0 rfl) ?_
  refine lv_bipush (v := 10) hx hb dX0_init_102 (by decide) ?_
  refine in_row (cells' := 13) (slots' := 1130) hx hb KlX hts hown hin hK hA ha [1, 2, 3, 4, 5, 6, 7, 8, 10, 11, 12, 13] [1, 2, 3, 4, 5, 6, 7, 8, 10, 11, 12, 13, 14] 14 10 47 true rfl rfl rfl (by decide) rfl rfl (by decide +kernel) (by decide) (by decide) (by decide) rfl rfl (Nat.le_of_ble_eq_true rfl) (Nat.le_of_ble_eq_true rfl) hP hD hS dX0_init_104 dX0_init_106 (fun adr H locs ha hP hD hS => ?_)
  refine lv_aload_n hx hb dX0_init_109 rfl (lv_at hl 0 rfl) ?_
  refine lv_bipush (v := 10) hx hb dX0_init_110 (by decide) ?_
  refine in_row (cells' := 14) (slots' := 1140) hx hb KlX hts hown hin hK hA ha [1, 2, 3, 4, 5, 6, 7, 8, 10, 11, 12, 13, 14] [1, 2, 3, 4, 5, 6, 7, 8, 10, 11, 12, 13, 14, 15] 15 10 50 true rfl rfl rfl (by decide) rfl rfl (by decide +kernel) (by decide) (by decide) (by decide) rfl rfl (Nat.le_of_ble_eq_true rfl) (Nat.le_of_ble_eq_true rfl) hP hD hS dX0_init_112 dX0_init_114 (fun adr H locs ha hP hD hS => ?_)
  refine lv_aload_n hx hb dX0_init_117 rfl (lv_at hl 0 rfl) ?_
  refine lv_bipush (v := 10) hx hb dX0_init_118 (by decide) ?_
  refine in_row (cells' := 15) (slots' := 1150) hx hb KlX hts hown hin hK hA ha [1, 2, 3, 4, 5, 6, 7, 8, 10, 11, 12, 13, 14, 15] [1, 2, 3, 4, 5, 6, 7, 8, 10, 11, 12, 13, 14, 15, 16] 16 10 53 false rfl rfl rfl (by decide) rfl rfl (by decide +kernel) (by decide) (by decide) (by decide) rfl rfl (Nat.le_of_ble_eq_true rfl) (Nat.le_of_ble_eq_true rfl) hP hD hS dX0_init_120 dX0_init_122 (fun adr H locs ha hP hD hS => ?_)
  refine lv_aload_n hx hb dX0_init_125 rfl (lv_at hl 0 rfl) ?_
  refine lv_sipush (v := 1000) hx hb dX0_init_126 (by decide) ?_
  refine in_row (cells' := 16) (slots' := 2150) hx hb KlX hts hown hin hK hA ha [1, 2, 3, 4, 5, 6, 7, 8, 10, 11, 12, 13, 14, 15, 16] [1, 2, 3, 4, 5, 6, 7, 8, 10, 11, 12, 13, 14, 15, 16, 17] 17 1000 56 false rfl rfl rfl (by decide) rfl rfl (by decide +kernel) (by decide) (by decide) (by decide) rfl rfl (Nat.le_of_ble_eq_true rfl) (Nat.le_of_ble_eq_true rfl) hP hD hS dX0_init_129 dX0_init_131 (fun adr H locs ha hP hD hS => ?_)
  refine lv_aload_n hx hb dX0_init_134 rfl (lv_at hl 0 rfl) ?_
  refine lv_sipush (v := 1000) hx hb dX0_init_135 (by decide) ?_
  refine in_row (cells' := 17) (slots' := 3150) hx hb KlX hts hown hin hK hA ha [1, 2, 3, 4, 5, 6, 7, 8, 10, 11, 12, 13, 14, 15, 16, 17] [1, 2, 3, 4, 5, 6, 7, 8, 10, 11, 12, 13, 14, 15, 16, 17, 18] 18 1000 59 false rfl rfl rfl (by decide) rfl rfl (by decide +kernel) (by decide) (by decide) (by decide) rfl rfl (Nat.le_of_ble_eq_true rfl) (Nat.le_of_ble_eq_true rfl) hP hD hS dX0_init_138 dX0_init_140 (fun adr H locs ha hP hD hS => ?_)
  refine lv_aload_n hx hb dX0_init_143 rfl (lv_at hl 0 rfl) ?_
  refine lv_iconst (v := 5) hx hb dX0_init_144 (by decide) ?_
  refine in_row (cells' := 18) (slots' := 3155) hx hb KlX hts hown hin hK hA ha [1, 2, 3, 4, 5, 6, 7, 8, 10, 11, 12, 13, 14, 15, 16, 17, 18] [1, 2, 3, 4, 5, 6, 7, 8, 10, 11, 12, 13, 14, 15, 16, 17, 18, 21] 21 5 62 false rfl rfl rfl (by decide) rfl rfl (by decide +kernel) (by decide) (by decide) (by decide) rfl rfl (Nat.le_of_ble_eq_true rfl) (Nat.le_of_ble_eq_true rfl) hP hD hS dX0_init_145 dX0_init_147 (fun adr H locs ha hP hD hS => ?_)
  refine lv_aload_n hx hb dX0_init_150 rfl (lv_at hl 0 rfl) ?_
  refine lv_iconst (v := 5) hx hb dX0_init_151 (by decide) ?_
  refine in_row (cells' := 19) (slots' := 3160) hx hb KlX hts hown hin hK hA ha [1, 2, 3, 4, 5, 6, 7, 8, 10, 11, 12, 13, 14, 15, 16, 17, 18, 21] [1, 2, 3, 4, 5, 6, 7, 8, 10, 11, 12, 13, 14, 15, 16, 17, 18, 21, 22] 22 5 65 false rfl rfl rfl (by decide) rfl rfl (by decide +kernel) (by decide) (by decide) (by decide) rfl rfl (Nat.le_of_ble_eq_true rfl) (Nat.le_of_ble_eq_true rfl) hP hD hS dX0_init_152 dX0_init_154 (fun adr H locs ha hP hD hS => ?_)
  refine lv_aload_n hx hb dX0_init_157 rfl (lv_at hl 0 rfl) ?_
  refine lv_bipush (v := 6) hx hb dX0_init_158 (by decide) ?_
  refine in_row (cells' := 20) (slots' := 3166) hx hb KlX hts hown hin hK hA ha [1, 2, 3, 4, 5, 6, 7, 8, 10, 11, 12, 13, 14, 15, 16, 17, 18, 21, 22] [1, 2, 3, 4, 5, 6, 7, 8, 10, 11, 12, 13, 14, 15, 16, 17, 18, 21, 22, 23] 23 6 68 false rfl rfl rfl (by decide) rfl rfl (by decide +kernel) (by decide) (by decide) (by decide) rfl rfl (Nat.le_of_ble_eq_true rfl) (Nat.le_of_ble_eq_true rfl) hP hD hS dX0_init_160 dX0_init_162 (fun adr H locs ha hP hD hS => ?_)
  refine lv_aload_n hx hb dX0_init_165 rfl (lv_at hl 0 rfl) ?_
  refine lv_bipush (v := 6) hx hb dX0_init_166 (by decide) ?_
  refine in_row (cells' := 21) (slots' := 3172) hx hb KlX hts hown hin hK hA ha [1, 2, 3, 4, 5, 6, 7, 8, 10, 11, 12, 13, 14, 15, 16, 17, 18, 21, 22, 23] [1, 2, 3, 4, 5, 6, 7, 8, 10, 11, 12, 13, 14, 15, 16, 17, 18, 21, 22, 23, 24] 24 6 71 false rfl rfl rfl (by decide) rfl rfl (by decide +kernel) (by decide) (by decide) (by decide) rfl rfl (Nat.le_of_ble_eq_true rfl) (Nat.le_of_ble_eq_true rfl) hP hD hS dX0_init_168 dX0_init_170 (fun adr H locs ha hP hD hS => ?_)
  have hP : va_P D vwCl (iw_ dd adr 0 LX (ar_ LX)) H := hP
  have hD : va_D (fun q : Nat => q = h0 ∨ s.heap.size ≤ q) (iw_ dd adr 0 LX (ar_ LX)) := hD
  rw [iw_full] at hP hD
  refine lv_aload_n hx hb dX0_init_173 rfl (lv_at hl 0 rfl) ?_
  refine lv_iconst (v := zI 0) hx hb dX0_init_174 rfl ?_
  have hPf := hP
  have hDf := hD
  have hSf := hS
  have hlf := hl
  subst ha
  have ha : adr LX.1 = adr LX.1 := rfl
  obtain ⟨a1, a2, ⟨ty, a3, a3'⟩, a4, a5, a6, -⟩ := KlX
  obtain ⟨g1, g2⟩ := a6 (74, 19) (lk_mem (l := LX.2.2.1) rfl)
  refine va_put (v := .int (zI 0)) (ty := .int) hx hb hts a2 ty a3 a4 hown hK hPf hDf hSf 0 rfl a1 19 g1 (hts _ g2) (fun _ h9 => h9) (a5 19 g1 rfl) (by rw [a3 19 g1, a3' 19 g1 rfl]) rfl rfl (by rw [fs_len]; exact g1) dX0_init_175 (fun H locs hP hD hS => ?_)
  rw [wd_put g1 rfl] at hP hD
  have e0 : up_ (fun _ _ => 0) 19 0 0 = fun _ _ => 0 := by
    funext f i
    unfold up_
    split <;> rfl
  rw [e0] at hP hD
  exact W.vret hx hb hr (fun t ht hW => ⟨⟨adr, rfl, trivial, ha, by rw [ht]; exact hP, hD, va_K.moved hW.alike hK⟩, hS.F ht⟩) hS.2.2 dX0_init_178
theorem dX1_init_0 : decode cX1_init 0 = .ok (.aload_n 0, 1) := by decide +kernel
theorem dX1_init_1 : decode cX1_init 1 = .ok (.invokespecial 1, 3) := by decide +kernel
theorem dX1_init_4 : decode cX1_init 4 = .ok (.aload_n 0, 1) := by decide +kernel
theorem dX1_init_5 : decode cX1_init 5 = .ok (.bipush 10, 2) := by decide +kernel
theorem dX1_init_7 : decode cX1_init 7 = .ok (.newarray .int, 2) := by decide +kernel
theorem dX1_init_9 : decode cX1_init 9 = .ok (.putfield 7, 3) := by decide +kernel
theorem dX1_init_12 : decode cX1_init 12 = .ok (.aload_n 0, 1) := by decide +kernel
theorem dX1_init_13 : decode cX1_init 13 = .ok (.bipush 10, 2) := by decide +kernel
theorem dX1_init_15 : decode cX1_init 15 = .ok (.newarray .int, 2) := by decide +kernel
theorem dX1_init_17 : decode cX1_init 17 = .ok (.putfield 13, 3) := by decide +kernel
theorem dX1_init_20 : decode cX1_init 20 = .ok (.aload_n 0, 1) := by decide +kernel
theorem dX1_init_21 : decode cX1_init 21 = .ok (.bipush 10, 2) := by decide +kernel
theorem dX1_init_23 : decode cX1_init 23 = .ok (.newarray .int, 2) := by decide +kernel
theorem dX1_init_25 : decode cX1_init 25 = .ok (.putfield 16, 3) := by decide +kernel
theorem dX1_init_28 : decode cX1_init 28 = .ok (.aload_n 0, 1) := by decide +kernel
theorem dX1_init_29 : decode cX1_init 29 = .ok (.bipush 10, 2) := by decide +kernel
theorem dX1_init_31 : decode cX1_init 31 = .ok (.newarray .int, 2) := by decide +kernel
theorem dX1_init_33 : decode cX1_init 33 = .ok (.putfield 19, 3) := by decide +kernel
theorem dX1_init_36 : decode cX1_init 36 = .ok (.aload_n 0, 1) := by decide +kernel
theorem dX1_init_37 : decode cX1_init 37 = .ok (.bipush 10, 2) := by decide +kernel
theorem dX1_init_39 : decode cX1_init 39 = .ok (.newarray .int, 2) := by decide +kernel
theorem dX1_init_41 : decode cX1_init 41 = .ok (.putfield 22, 3) := by decide +kernel
theorem dX1_init_44 : decode cX1_init 44 = .ok (.aload_n 0, 1) := by decide +kernel
theorem dX1_init_45 : decode cX1_init 45 = .ok (.bipush 10, 2) := by decide +kernel
theorem dX1_init_47 : decode cX1_init 47 = .ok (.newarray .int, 2) := by decide +kernel
theorem dX1_init_49 : decode cX1_init 49 = .ok (.putfield 25, 3) := by decide +kernel
theorem dX1_init_52 : decode cX1_init 52 = .ok (.aload_n 0, 1) := by decide +kernel
theorem dX1_init_53 : decode cX1_init 53 = .ok (.bipush 10, 2) := by decide +kernel
theorem dX1_init_55 : decode cX1_init 55 = .ok (.newarray .boolean, 2) := by decide +kernel
theorem dX1_init_57 : decode cX1_init 57 = .ok (.putfield 28, 3) := by decide +kernel
theorem dX1_init_60 : decode cX1_init 60 = .ok (.aload_n 0, 1) := by decide +kernel
theorem dX1_init_61 : decode cX1_init 61 = .ok (.bipush 10, 2) := by decide +kernel
theorem dX1_init_63 : decode cX1_init 63 = .ok (.newarray .int, 2) := by decide +kernel
theorem dX1_init_65 : decode cX1_init 65 = .ok (.putfield 32, 3) := by decide +kernel
theorem dX1_init_68 : decode cX1_init 68 = .ok (.aload_n 0, 1) := by decide +kernel
theorem dX1_init_69 : decode cX1_init 69 = .ok (.bipush 10, 2) := by decide +kernel
theorem dX1_init_71 : decode cX1_init 71 = .ok (.newarray .int, 2) := by decide +kernel
theorem dX1_init_73 : decode cX1_init 73 = .ok (.putfield 35, 3) := by decide +kernel
theorem dX1_init_76 : decode cX1_init 76 = .ok (.aload_n 0, 1) := by decide +kernel
theorem dX1_init_77 : decode cX1_init 77 = .ok (.bipush 10, 2) := by decide +kernel
theorem dX1_init_79 : decode cX1_init 79 = .ok (.newarray .int, 2) := by decide +kernel
theorem dX1_init_81 : decode cX1_init 81 = .ok (.putfield 38, 3) := by decide +kernel
theorem dX1_init_84 : decode cX1_init 84 = .ok (.aload_n 0, 1) := by decide +kernel
theorem dX1_init_85 : decode cX1_init 85 = .ok (.bipush 10, 2) := by decide +kernel
theorem dX1_init_87 : decode cX1_init 87 = .ok (.newarray .int, 2) := by decide +kernel
theorem dX1_init_89 : decode cX1_init 89 = .ok (.putfield 41, 3) := by decide +kernel
theorem dX1_init_92 : decode cX1_init 92 = .ok (.aload_n 0, 1) := by decide +kernel
theorem dX1_init_93 : decode cX1_init 93 = .ok (.bipush 10, 2) := by decide +kernel
theorem dX1_init_95 : decode cX1_init 95 = .ok (.newarray .boolean, 2) := by decide +kernel
theorem dX1_init_97 : decode cX1_init 97 = .ok (.putfield 44, 3) := by decide +kernel
theorem dX1_init_100 : decode cX1_init 100 = .ok (.aload_n 0, 1) := by decide +kernel
theorem dX1_init_101 : decode cX1_init 101 = .ok (.bipush 10, 2) := by decide +kernel
theorem dX1_init_103 : decode cX1_init 103 = .ok (.newarray .int, 2) := by decide +kernel
theorem dX1_init_105 : decode cX1_init 105 = .ok (.putfield 47, 3) := by decide +kernel
theorem dX1_init_108 : decode cX1_init 108 = .ok (.aload_n 0, 1) := by decide +kernel
theorem dX1_init_109 : decode cX1_init 109 = .ok (.sipush 640, 3) := by decide +kernel
theorem dX1_init_112 : decode cX1_init 112 = .ok (.newarray .int, 2) := by decide +kernel
theorem dX1_init_114 : decode cX1_init 114 = .ok (.putfield 50, 3) := by decide +kernel
theorem dX1_init_117 : decode cX1_init 117 = .ok (.aload_n 0, 1) := by decide +kernel
theorem dX1_init_118 : decode cX1_init 118 = .ok (.sipush 640, 3) := by decide +kernel
theorem dX1_init_121 : decode cX1_init 121 = .ok (.newarray .int, 2) := by decide +kernel
theorem dX1_init_123 : decode cX1_init 123 = .ok (.putfield 53, 3) := by decide +kernel
theorem dX1_init_126 : decode cX1_init 126 = .ok (.aload_n 0, 1) := by decide +kernel
theorem dX1_init_127 : decode cX1_init 127 = .ok (.bipush 6, 2) := by decide +kernel
theorem dX1_init_129 : decode cX1_init 129 = .ok (.newarray .int, 2) := by decide +kernel
theorem dX1_init_131 : decode cX1_init 131 = .ok (.putfield 56, 3) := by decide +kernel
theorem dX1_init_134 : decode cX1_init 134 = .ok (.aload_n 0, 1) := by decide +kernel
theorem dX1_init_135 : decode cX1_init 135 = .ok (.bipush 6, 2) := by decide +kernel
theorem dX1_init_137 : decode cX1_init 137 = .ok (.newarray .int, 2) := by decide +kernel
theorem dX1_init_139 : decode cX1_init 139 = .ok (.putfield 59, 3) := by decide +kernel
theorem dX1_init_142 : decode cX1_init 142 = .ok (.aload_n 0, 1) := by decide +kernel
theorem dX1_init_143 : decode cX1_init 143 = .ok (.bipush 7, 2) := by decide +kernel
theorem dX1_init_145 : decode cX1_init 145 = .ok (.newarray .int, 2) := by decide +kernel
theorem dX1_init_147 : decode cX1_init 147 = .ok (.putfield 62, 3) := by decide +kernel
theorem dX1_init_150 : decode cX1_init 150 = .ok (.aload_n 0, 1) := by decide +kernel
theorem dX1_init_151 : decode cX1_init 151 = .ok (.bipush 7, 2) := by decide +kernel
theorem dX1_init_153 : decode cX1_init 153 = .ok (.newarray .int, 2) := by decide +kernel
theorem dX1_init_155 : decode cX1_init 155 = .ok (.putfield 65, 3) := by decide +kernel
theorem dX1_init_158 : decode cX1_init 158 = .ok (.aload_n 0, 1) := by decide +kernel
theorem dX1_init_159 : decode cX1_init 159 = .ok (.bipush 7, 2) := by decide +kernel
theorem dX1_init_161 : decode cX1_init 161 = .ok (.newarray .int, 2) := by decide +kernel
theorem dX1_init_163 : decode cX1_init 163 = .ok (.putfield 68, 3) := by decide +kernel
theorem dX1_init_166 : decode cX1_init 166 = .ok (.aload_n 0, 1) := by decide +kernel
theorem dX1_init_167 : decode cX1_init 167 = .ok (.iconst 5, 1) := by decide +kernel
theorem dX1_init_168 : decode cX1_init 168 = .ok (.newarray .int, 2) := by decide +kernel
theorem dX1_init_170 : decode cX1_init 170 = .ok (.putfield 71, 3) := by decide +kernel
theorem dX1_init_173 : decode cX1_init 173 = .ok (.aload_n 0, 1) := by decide +kernel
theorem dX1_init_174 : decode cX1_init 174 = .ok (.iconst 5, 1) := by decide +kernel
theorem dX1_init_175 : decode cX1_init 175 = .ok (.newarray .int, 2) := by decide +kernel
theorem dX1_init_177 : decode cX1_init 177 = .ok (.putfield 74, 3) := by decide +kernel
theorem dX1_init_180 : decode cX1_init 180 = .ok (.return_, 1) := by decide +kernel
set_option maxHeartbeats 4000000 in
set_option maxRecDepth 100000 in
theorem iM_init (l : Launch) (D : va_G) (dd : ClassId × ClassId) (h0 sz : Nat) : Met l yX1_init (ws_ yX1_init cX1_init 1 none) { frames := 1, cells := 22, slots := 1453, locals := 40 } (va_Pc [.ref h0] (fun U => U.heap.size = sz ∧ va_P D vwCl (iw_ dd (fun _ => h0) 1 LM []) U.heap ∧ va_K D vwCl (ty2_ dd) U)) (va_Qv (fun _ : Nat → Nat => True) (fun adr t => adr LM.1 = h0 ∧ va_P D vwCl (wd_ dd adr 1 LM (fun _ _ => 0)) t.heap ∧ va_D (fun q : Nat => q = h0 ∨ sz ≤ q) (wd_ dd adr 1 LM (fun _ _ => 0)) ∧ va_K D vwCl (ty2_ dd) t) (fun q : Nat => q = h0 ∨ sz ≤ q)) 22 1453 (fun q : Nat => q = h0 ∨ sz ≤ q) := by
  refine Met.ofW (cc := cX1_init) (maxL := 1) (ret := none) (by decide) rfl ?_
  intro p e s m args below meth c s₁ B hml hv
  obtain ⟨rfl, hsz, hP, hK⟩ := hv
  have hx := B.exec
  have hb := B.bytes
  have hr := B.returns
  have hts := atoms_spec (ws := ws_ yX1_init cX1_init 1 none) B.pre
  have hts : ∀ w ∈ lw_all, w.before _ s = true := fun w h => hts w (List.mem_cons_of_mem _ h)
  have hown : s.vm.findClass RX1 = some m.cls := findClass_of_methodNamed B.named
  have hlocks := B.notSynchronized
  have hin : meth.name = "<init>" := (name_of_methodNamed B.named B.method).1
  subst hsz
  have hD : va_D (fun q : Nat => q = h0 ∨ s.heap.size ≤ q) (iw_ dd (fun _ => h0) 1 LM []) := by
    refine ⟨fun i j x y hx hy _ => ?_, fun k q hq => ?_⟩
    · have := (List.getElem?_eq_some_iff.mp hx).1
      have := (List.getElem?_eq_some_iff.mp hy).1
      simp [iw_] at *
      omega
    · have hk : k < 1 := (List.getElem?_eq_some_iff.mp hq).1
      have hk : k = 0 := by omega
      subst hk
      cases hq
      exact Or.inl rfl
  have hA : ∀ q : Nat, s.heap.size ≤ q → (fun q : Nat => q = h0 ∨ s.heap.size ≤ q) q := fun q h => Or.inr h
  have hS : va_S (fun q : Nat => q = h0 ∨ s.heap.size ≤ q) s.heap s.heap [] := va_S.rf
  have ha : (fun _ : Nat => h0) LM.1 = h0 := rfl
  have hl := lv_entry ([.ref h0]) (n := 1) (Nat.le_of_ble_eq_true rfl)
  rw [lg_entry_eq]
  generalize (lg_sl ([.ref h0]) ++ List.replicate (1 - (lg_sl ([.ref h0])).length) Slot.unset).toArray = ls at hl ⊢
  have hl : lv_has ls 1 [(0, .ref h0)] := hl
  refine lv_aload_n hx hb dX1_init_0 rfl (lv_at hl 0 rfl) ?_
  refine W.objInit hx hb hown (hts _ q263) (hts _ q41) (hts _ q42) rfl (by rw [hml]; exact hl.1) rfl dX1_init_1 (Nat.le_of_ble_eq_true rfl) (Nat.le_of_ble_eq_true rfl) ?_
  refine W.eq (g2 := F0 m 4 ls []) rfl ?_
  refine lv_aload_n hx hb dX1_init_4 rfl (lv_at hl 0 rfl) ?_
  refine lv_bipush (v := 10) hx hb dX1_init_5 (by decide) ?_
  refine in_row (cells' := 1) (slots' := 10) hx hb KlM hts hown hin hK hA ha [] [2] 2 10 7 false rfl rfl rfl (by decide) rfl rfl (by decide +kernel) (by decide) (by decide) (by decide) rfl rfl (Nat.le_of_ble_eq_true rfl) (Nat.le_of_ble_eq_true rfl) hP hD hS dX1_init_7 dX1_init_9 (fun adr H locs ha hP hD hS => ?_)
  refine lv_aload_n hx hb dX1_init_12 rfl (lv_at hl 0 rfl) ?_
  refine lv_bipush (v := 10) hx hb dX1_init_13 (by decide) ?_
  refine in_row (cells' := 2) (slots' := 20) hx hb KlM hts hown hin hK hA ha [2] [2, 3] 3 10 13 false rfl rfl rfl (by decide) rfl rfl (by decide +kernel) (by decide) (by decide) (by decide) rfl rfl (Nat.le_of_ble_eq_true rfl) (Nat.le_of_ble_eq_true rfl) hP hD hS dX1_init_15 dX1_init_17 (fun adr H locs ha hP hD hS => ?_)
  refine lv_aload_n hx hb dX1_init_20 rfl (lv_at hl 0 rfl) ?_
  refine lv_bipush (v := 10) hx hb dX1_init_21 (by decide) ?_
  refine in_row (cells' := 3) (slots' := 30) hx hb KlM hts hown hin hK hA ha [2, 3] [2, 3, 4] 4 10 16 false rfl rfl rfl (by decide) rfl rfl (by decide +kernel) (by decide) (by decide) (by decide) rfl rfl (Nat.le_of_ble_eq_true rfl) (Nat.le_of_ble_eq_true rfl) hP hD hS dX1_init_23 dX1_init_25 (fun adr H locs ha hP hD hS => ?_)
  refine lv_aload_n hx hb dX1_init_28 rfl (lv_at hl 0 rfl) ?_
  refine lv_bipush (v := 10) hx hb dX1_init_29 (by decide) ?_
  refine in_row (cells' := 4) (slots' := 40) hx hb KlM hts hown hin hK hA ha [2, 3, 4] [2, 3, 4, 5] 5 10 19 false rfl rfl rfl (by decide) rfl rfl (by decide +kernel) (by decide) (by decide) (by decide) rfl rfl (Nat.le_of_ble_eq_true rfl) (Nat.le_of_ble_eq_true rfl) hP hD hS dX1_init_31 dX1_init_33 (fun adr H locs ha hP hD hS => ?_)
  refine lv_aload_n hx hb dX1_init_36 rfl (lv_at hl 0 rfl) ?_
  refine lv_bipush (v := 10) hx hb dX1_init_37 (by decide) ?_
  refine in_row (cells' := 5) (slots' := 50) hx hb KlM hts hown hin hK hA ha [2, 3, 4, 5] [2, 3, 4, 5, 6] 6 10 22 false rfl rfl rfl (by decide) rfl rfl (by decide +kernel) (by decide) (by decide) (by decide) rfl rfl (Nat.le_of_ble_eq_true rfl) (Nat.le_of_ble_eq_true rfl) hP hD hS dX1_init_39 dX1_init_41 (fun adr H locs ha hP hD hS => ?_)
  refine lv_aload_n hx hb dX1_init_44 rfl (lv_at hl 0 rfl) ?_
  refine lv_bipush (v := 10) hx hb dX1_init_45 (by decide) ?_
  refine in_row (cells' := 6) (slots' := 60) hx hb KlM hts hown hin hK hA ha [2, 3, 4, 5, 6] [2, 3, 4, 5, 6, 7] 7 10 25 false rfl rfl rfl (by decide) rfl rfl (by decide +kernel) (by decide) (by decide) (by decide) rfl rfl (Nat.le_of_ble_eq_true rfl) (Nat.le_of_ble_eq_true rfl) hP hD hS dX1_init_47 dX1_init_49 (fun adr H locs ha hP hD hS => ?_)
  refine lv_aload_n hx hb dX1_init_52 rfl (lv_at hl 0 rfl) ?_
  refine lv_bipush (v := 10) hx hb dX1_init_53 (by decide) ?_
  refine in_row (cells' := 7) (slots' := 70) hx hb KlM hts hown hin hK hA ha [2, 3, 4, 5, 6, 7] [2, 3, 4, 5, 6, 7, 8] 8 10 28 true rfl rfl rfl (by decide) rfl rfl (by decide +kernel) (by decide) (by decide) (by decide) rfl rfl (Nat.le_of_ble_eq_true rfl) (Nat.le_of_ble_eq_true rfl) hP hD hS dX1_init_55 dX1_init_57 (fun adr H locs ha hP hD hS => ?_)
  refine lv_aload_n hx hb dX1_init_60 rfl (lv_at hl 0 rfl) ?_
  refine lv_bipush (v := 10) hx hb dX1_init_61 (by decide) ?_
  refine in_row (cells' := 8) (slots' := 80) hx hb KlM hts hown hin hK hA ha [2, 3, 4, 5, 6, 7, 8] [2, 3, 4, 5, 6, 7, 8, 10] 10 10 32 false rfl rfl rfl (by decide) rfl rfl (by decide +kernel) (by decide) (by decide) (by decide) rfl rfl (Nat.le_of_ble_eq_true rfl) (Nat.le_of_ble_eq_true rfl) hP hD hS dX1_init_63 dX1_init_65 (fun adr H locs ha hP hD hS => ?_)
  refine lv_aload_n hx hb dX1_init_68 rfl (lv_at hl 0 rfl) ?_
  refine lv_bipush (v := 10) hx hb dX1_init_69 (by decide) ?_
  refine in_row (cells' := 9) (slots' := 90) hx hb KlM hts hown hin hK hA ha [2, 3, 4, 5, 6, 7, 8, 10] [2, 3, 4, 5, 6, 7, 8, 10, 11] 11 10 35 false rfl rfl rfl (by decide) rfl rfl (by decide +kernel) (by decide) (by decide) (by decide) rfl rfl (Nat.le_of_ble_eq_true rfl) (Nat.le_of_ble_eq_true rfl) hP hD hS dX1_init_71 dX1_init_73 (fun adr H locs ha hP hD hS => ?_)
  refine lv_aload_n hx hb dX1_init_76 rfl (lv_at hl 0 rfl) ?_
  refine lv_bipush (v := 10) hx hb dX1_init_77 (by decide) ?_
  refine in_row (cells' := 10) (slots' := 100) hx hb KlM hts hown hin hK hA ha [2, 3, 4, 5, 6, 7, 8, 10, 11] [2, 3, 4, 5, 6, 7, 8, 10, 11, 12] 12 10 38 false rfl rfl rfl (by decide) rfl rfl (by decide +kernel) (by decide) (by decide) (by decide) rfl rfl (Nat.le_of_ble_eq_true rfl) (Nat.le_of_ble_eq_true rfl) hP hD hS dX1_init_79 dX1_init_81 (fun adr H locs ha hP hD hS => ?_)
  refine lv_aload_n hx hb dX1_init_84 rfl (lv_at hl 0 rfl) ?_
  refine lv_bipush (v := 10) hx hb dX1_init_85 (by decide) ?_
  refine in_row (cells' := 11) (slots' := 110) hx hb KlM hts hown hin hK hA ha [2, 3, 4, 5, 6, 7, 8, 10, 11, 12] [2, 3, 4, 5, 6, 7, 8, 10, 11, 12, 13] 13 10 41 false rfl rfl rfl (by decide) rfl rfl (by decide +kernel) (by decide) (by decide) (by decide) rfl rfl (Nat.le_of_ble_eq_true rfl) (Nat.le_of_ble_eq_true rfl) hP hD hS dX1_init_87 dX1_init_89 (fun adr H locs ha hP hD hS => ?_)
  refine lv_aload_n hx hb dX1_init_92 rfl (lv_at hl 0 rfl) ?_
  refine lv_bipush (v := 10) hx hb dX1_init_93 (by decide) ?_
  refine in_row (cells' := 12) (slots' := 120) hx hb KlM hts hown hin hK hA ha [2, 3, 4, 5, 6, 7, 8, 10, 11, 12, 13] [2, 3, 4, 5, 6, 7, 8, 10, 11, 12, 13, 14] 14 10 44 true rfl rfl rfl (by decide) rfl rfl (by decide +kernel) (by decide) (by decide) (by decide) rfl rfl (Nat.le_of_ble_eq_true rfl) (Nat.le_of_ble_eq_true rfl) hP hD hS dX1_init_95 dX1_init_97 (fun adr H locs ha hP hD hS => ?_)
  refine lv_aload_n hx hb dX1_init_100 rfl (lv_at hl 0 rfl) ?_
  refine lv_bipush (v := 10) hx hb dX1_init_101 (by decide) ?_
  refine in_row (cells' := 13) (slots' := 130) hx hb KlM hts hown hin hK hA ha [2, 3, 4, 5, 6, 7, 8, 10, 11, 12, 13, 14] [2, 3, 4, 5, 6, 7, 8, 10, 11, 12, 13, 14, 15] 15 10 47 false rfl rfl rfl (by decide) rfl rfl (by decide +kernel) (by decide) (by decide) (by decide) rfl rfl (Nat.le_of_ble_eq_true rfl) (Nat.le_of_ble_eq_true rfl) hP hD hS dX1_init_103 dX1_init_105 (fun adr H locs ha hP hD hS => ?_)
  refine lv_aload_n hx hb dX1_init_108 rfl (lv_at hl 0 rfl) ?_
  refine lv_sipush (v := 640) hx hb dX1_init_109 (by decide) ?_
  refine in_row (cells' := 14) (slots' := 770) hx hb KlM hts hown hin hK hA ha [2, 3, 4, 5, 6, 7, 8, 10, 11, 12, 13, 14, 15] [2, 3, 4, 5, 6, 7, 8, 10, 11, 12, 13, 14, 15, 16] 16 640 50 false rfl rfl rfl (by decide) rfl rfl (by decide +kernel) (by decide) (by decide) (by decide) rfl rfl (Nat.le_of_ble_eq_true rfl) (Nat.le_of_ble_eq_true rfl) hP hD hS dX1_init_112 dX1_init_114 (fun adr H locs ha hP hD hS => ?_)
  refine lv_aload_n hx hb dX1_init_117 rfl (lv_at hl 0 rfl) ?_
  refine lv_sipush (v := 640) hx hb dX1_init_118 (by decide) ?_
  refine in_row (cells' := 15) (slots' := 1410) hx hb KlM hts hown hin hK hA ha [2, 3, 4, 5, 6, 7, 8, 10, 11, 12, 13, 14, 15, 16] [2, 3, 4, 5, 6, 7, 8, 10, 11, 12, 13, 14, 15, 16, 17] 17 640 53 false rfl rfl rfl (by decide) rfl rfl (by decide +kernel) (by decide) (by decide) (by decide) rfl rfl (Nat.le_of_ble_eq_true rfl) (Nat.le_of_ble_eq_true rfl) hP hD hS dX1_init_121 dX1_init_123 (fun adr H locs ha hP hD hS => ?_)
  refine lv_aload_n hx hb dX1_init_126 rfl (lv_at hl 0 rfl) ?_
  refine lv_bipush (v := 6) hx hb dX1_init_127 (by decide) ?_
  refine in_row (cells' := 16) (slots' := 1416) hx hb KlM hts hown hin hK hA ha [2, 3, 4, 5, 6, 7, 8, 10, 11, 12, 13, 14, 15, 16, 17] [2, 3, 4, 5, 6, 7, 8, 10, 11, 12, 13, 14, 15, 16, 17, 18] 18 6 56 false rfl rfl rfl (by decide) rfl rfl (by decide +kernel) (by decide) (by decide) (by decide) rfl rfl (Nat.le_of_ble_eq_true rfl) (Nat.le_of_ble_eq_true rfl) hP hD hS dX1_init_129 dX1_init_131 (fun adr H locs ha hP hD hS => ?_)
  refine lv_aload_n hx hb dX1_init_134 rfl (lv_at hl 0 rfl) ?_
  refine lv_bipush (v := 6) hx hb dX1_init_135 (by decide) ?_
  refine in_row (cells' := 17) (slots' := 1422) hx hb KlM hts hown hin hK hA ha [2, 3, 4, 5, 6, 7, 8, 10, 11, 12, 13, 14, 15, 16, 17, 18] [2, 3, 4, 5, 6, 7, 8, 10, 11, 12, 13, 14, 15, 16, 17, 18, 19] 19 6 59 false rfl rfl rfl (by decide) rfl rfl (by decide +kernel) (by decide) (by decide) (by decide) rfl rfl (Nat.le_of_ble_eq_true rfl) (Nat.le_of_ble_eq_true rfl) hP hD hS dX1_init_137 dX1_init_139 (fun adr H locs ha hP hD hS => ?_)
  refine lv_aload_n hx hb dX1_init_142 rfl (lv_at hl 0 rfl) ?_
  refine lv_bipush (v := 7) hx hb dX1_init_143 (by decide) ?_
  refine in_row (cells' := 18) (slots' := 1429) hx hb KlM hts hown hin hK hA ha [2, 3, 4, 5, 6, 7, 8, 10, 11, 12, 13, 14, 15, 16, 17, 18, 19] [2, 3, 4, 5, 6, 7, 8, 10, 11, 12, 13, 14, 15, 16, 17, 18, 19, 20] 20 7 62 false rfl rfl rfl (by decide) rfl rfl (by decide +kernel) (by decide) (by decide) (by decide) rfl rfl (Nat.le_of_ble_eq_true rfl) (Nat.le_of_ble_eq_true rfl) hP hD hS dX1_init_145 dX1_init_147 (fun adr H locs ha hP hD hS => ?_)
  refine lv_aload_n hx hb dX1_init_150 rfl (lv_at hl 0 rfl) ?_
  refine lv_bipush (v := 7) hx hb dX1_init_151 (by decide) ?_
  refine in_row (cells' := 19) (slots' := 1436) hx hb KlM hts hown hin hK hA ha [2, 3, 4, 5, 6, 7, 8, 10, 11, 12, 13, 14, 15, 16, 17, 18, 19, 20] [2, 3, 4, 5, 6, 7, 8, 10, 11, 12, 13, 14, 15, 16, 17, 18, 19, 20, 21] 21 7 65 false rfl rfl rfl (by decide) rfl rfl (by decide +kernel) (by decide) (by decide) (by decide) rfl rfl (Nat.le_of_ble_eq_true rfl) (Nat.le_of_ble_eq_true rfl) hP hD hS dX1_init_153 dX1_init_155 (fun adr H locs ha hP hD hS => ?_)
  refine lv_aload_n hx hb dX1_init_158 rfl (lv_at hl 0 rfl) ?_
  refine lv_bipush (v := 7) hx hb dX1_init_159 (by decide) ?_
  refine in_row (cells' := 20) (slots' := 1443) hx hb KlM hts hown hin hK hA ha [2, 3, 4, 5, 6, 7, 8, 10, 11, 12, 13, 14, 15, 16, 17, 18, 19, 20, 21] [2, 3, 4, 5, 6, 7, 8, 10, 11, 12, 13, 14, 15, 16, 17, 18, 19, 20, 21, 22] 22 7 68 false rfl rfl rfl (by decide) rfl rfl (by decide +kernel) (by decide) (by decide) (by decide) rfl rfl (Nat.le_of_ble_eq_true rfl) (Nat.le_of_ble_eq_true rfl) hP hD hS dX1_init_161 dX1_init_163 (fun adr H locs ha hP hD hS => ?_)
  refine lv_aload_n hx hb dX1_init_166 rfl (lv_at hl 0 rfl) ?_
  refine lv_iconst (v := 5) hx hb dX1_init_167 (by decide) ?_
  refine in_row (cells' := 21) (slots' := 1448) hx hb KlM hts hown hin hK hA ha [2, 3, 4, 5, 6, 7, 8, 10, 11, 12, 13, 14, 15, 16, 17, 18, 19, 20, 21, 22] [2, 3, 4, 5, 6, 7, 8, 10, 11, 12, 13, 14, 15, 16, 17, 18, 19, 20, 21, 22, 25] 25 5 71 false rfl rfl rfl (by decide) rfl rfl (by decide +kernel) (by decide) (by decide) (by decide) rfl rfl (Nat.le_of_ble_eq_true rfl) (Nat.le_of_ble_eq_true rfl) hP hD hS dX1_init_168 dX1_init_170 (fun adr H locs ha hP hD hS => ?_)
  refine lv_aload_n hx hb dX1_init_173 rfl (lv_at hl 0 rfl) ?_
  refine lv_iconst (v := 5) hx hb dX1_init_174 (by decide) ?_
  refine in_row (cells' := 22) (slots' := 1453) hx hb KlM hts hown hin hK hA ha [2, 3, 4, 5, 6, 7, 8, 10, 11, 12, 13, 14, 15, 16, 17, 18, 19, 20, 21, 22, 25] [2, 3, 4, 5, 6, 7, 8, 10, 11, 12, 13, 14, 15, 16, 17, 18, 19, 20, 21, 22, 25, 26] 26 5 74 false rfl rfl rfl (by decide) rfl rfl (by decide +kernel) (by decide) (by decide) (by decide) rfl rfl (Nat.le_of_ble_eq_true rfl) (Nat.le_of_ble_eq_true rfl) hP hD hS dX1_init_175 dX1_init_177 (fun adr H locs ha hP hD hS => ?_)
  have hP : va_P D vwCl (iw_ dd adr 1 LM (ar_ LM)) H := hP
  have hD : va_D (fun q : Nat => q = h0 ∨ s.heap.size ≤ q) (iw_ dd adr 1 LM (ar_ LM)) := hD
  rw [iw_full] at hP hD
  exact W.vret hx hb hr (fun t ht hW => ⟨⟨adr, rfl, trivial, ha, by rw [ht]; exact hP, hD, va_K.moved hW.alike hK⟩, hS.F ht⟩) hS.2.2 dX1_init_180
end
section
/-! THE LAW, PURE: what both objects hold together (Jn_); a call of the law keeps it, and both answer alike (Stp_) -/
def Jn_ (n : Nat) (X Y : St_) : Prop := rgX_ X ∧ rgX_ Y ∧ IV_ (co_ X) (fun _ => False) ∧ R_ (co_ X) Y ∧ co_ X 19 0 ≤ 200 * n
/-- a call on both: first the component's, then the model's -/
def Stp_ (cx cm : Cs_) (as : List Int) (n : Nat) (X Y : St_) : Prop := cx.2.2.2.1 as X ∧ ∀ (z : Int) (X' : St_), rgX_ X' → cx.2.2.2.2 as X z X' → cm.2.2.2.1 as Y ∧ ∀ (w : Int) (Y' : St_), rgX_ Y' → cm.2.2.2.2 as Y w Y' → z = w ∧ Jn_ (n + 1) X' Y'
theorem Jn_.Mi {n : Nat} {X Y : St_} (h : Jn_ n X Y) : Mi_ Y := ⟨co_ X, h.2.2.2.1, h.2.2.1⟩
theorem Jn_.same {n : Nat} {X Y X' Y' : St_} (h : Jn_ n X Y) (h1 : rgX_ X') (h2 : rgX_ Y') (hc : co_ X' = co_ X) (hR : R_ (co_ X) Y') : Jn_ (n + 1) X' Y' := by
  obtain ⟨-, -, a3, a4, a5⟩ := h
  refine ⟨h1, h2, by rw [hc]; exact a3, by rw [hc]; exact hR, ?_⟩
  rw [hc]
  push_cast
  omega
theorem ca_19 {X : St_} (h : IV_ X (fun _ => False)) {k : Int} (hk0 : 0 ≤ k) (hk1 : k < 10) (hk : X 1 k = 0) : ca_ X k 19 0 = X 19 0 := by
  have h9 := h.1.1.2.2.1
  have e9 : up_ X 1 k 1 9 0 = X 9 0 := up_ne _ _ _ _ (by decide)
  have hm : ((X 9 0).toNat : Int) = X 9 0 := by omega
  obtain ⟨l1, l2, -⟩ := lc_IV (k := k) (cf_J h.1 k) (cf_rOK h hk0 hk1 hk) (X 9 0).toNat (by omega)
  have le9 : lc_ (up_ X 1 k 1) k (X 9 0).toNat 9 0 = X 9 0 := by rw [l2 9 (by decide) (by decide)]; exact e9
  obtain ⟨p1, p2⟩ := hp_IV (X := up_ X 1 k 1) (k := k) (IV_congr (E' := fun c => 0 ≤ ob_ (up_ X 1 k 1) c k) l1 (fun c hc0 hc1 => ⟨fun q => q.2, fun q => ⟨by rw [le9] at hc1; omega, q⟩⟩)) (X 9 0).toNat (by rw [le9]; omega)
  have pe9 : hp_ (up_ X 1 k 1) (lc_ (up_ X 1 k 1) k (X 9 0).toNat) k (X 9 0).toNat 9 0 = X 9 0 := by rw [p2 9 (by decide) (by decide) (by decide) (by decide) (by decide)]; exact le9
  have r := (ry_IV (IV_congr (E' := fun _ => False) p1 (fun c hc0 hc1 => ⟨fun q => by rw [pe9] at hc1; omega, fun q => q.elim⟩)) (X 9 0).toNat (by rw [pe9]; omega)).2 19 (by decide) (by decide) (by decide) (by decide) (by decide)
  unfold ca_
  rw [r, p2 19 (by decide) (by decide) (by decide) (by decide) (by decide), l2 19 (by decide) (by decide), up_ne _ _ _ _ (by decide)]
theorem Ct_fun {X : St_} {e s t z w : Int} {Y T : St_} (h1 : Ct_ X e s t z Y) (h2 : Ct_ X e s t w T) : z = w ∧ Y = T := by
  rcases h1 with ⟨a, b, c, d⟩ | ⟨a, b, c, d⟩ | ⟨a, c, d⟩ <;> rcases h2 with ⟨a', b', c', d'⟩ | ⟨a', b', c', d'⟩ | ⟨a', c', d'⟩
  · exact ⟨c.trans c'.symm, d.trans d'.symm⟩
  · omega
  · exact absurd a a'
  · omega
  · exact ⟨c.trans c'.symm, d.trans d'.symm⟩
  · exact absurd a a'
  · exact absurd a' a
  · exact absurd a' a
  · exact ⟨c.trans c'.symm, d.trans d'.symm⟩
theorem Ct_IV {X : St_} {e s t z : Int} {Y : St_} (h : IV_ X (fun _ => False)) (h1 : Ct_ X e s t z Y) : IV_ Y (fun _ => False) ∧ Y 19 0 = X 19 0 := by
  rcases h1 with ⟨a, b, c, d⟩ | ⟨a, b, c, d⟩ | ⟨a, c, d⟩
  · have hI := nc_IV h b a.1 a.2.1 a.2.2
    have h9 := h.1.1.2.2.1
    obtain ⟨r1, r2⟩ := ry_IV hI (X 9 0).toNat (by rw [nc_ne _ _ _ _ (by decide)]; omega)
    rw [d]
    refine ⟨r1, ?_⟩
    rw [r2 19 (by decide) (by decide) (by decide) (by decide) (by decide), nc_ne _ _ _ _ (by decide)]
  · rw [d]; exact ⟨h, rfl⟩
  · rw [d]; exact ⟨h, rfl⟩
theorem Ca_fun {X : St_} {k z w : Int} {Y T : St_} (h1 : Ca_ X k z Y) (h2 : Ca_ X k w T) : z = w ∧ Y = T := by
  rcases h1 with ⟨a, c, d⟩ | ⟨a, c, d⟩ <;> rcases h2 with ⟨a', c', d'⟩ | ⟨a', c', d'⟩
  · exact ⟨c.trans c'.symm, d.trans d'.symm⟩
  · exact absurd a a'
  · exact absurd a' a
  · exact ⟨c.trans c'.symm, d.trans d'.symm⟩
theorem Ca_IV {X : St_} {k z : Int} {Y : St_} (h : IV_ X (fun _ => False)) (h1 : Ca_ X k z Y) : IV_ Y (fun _ => False) ∧ Y 19 0 = X 19 0 := by
  have hn := h.1.1.1.2.1
  rcases h1 with ⟨a, c, d⟩ | ⟨a, c, d⟩
  · rw [d]
    exact ⟨ca_IV h a.1 (by omega) a.2.2, ca_19 h a.1 (by omega) a.2.2⟩
  · rw [d]; exact ⟨h, rfl⟩
theorem Sd_fun {X : St_} {e s t z w : Int} {Y T : St_} (h1 : Sd_ X e s t z Y) (h2 : Sd_ X e s t w T) : z = w ∧ Y = T := by
  rcases h1 with ⟨a, b, c, d⟩ | ⟨a, b, c, d⟩ | ⟨a, c, d⟩ <;> rcases h2 with ⟨a', b', c', d'⟩ | ⟨a', b', c', d'⟩ | ⟨a', c', d'⟩
  · exact ⟨c.trans c'.symm, d.trans d'.symm⟩
  · omega
  · exact absurd a a'
  · omega
  · exact ⟨c.trans c'.symm, d.trans d'.symm⟩
  · exact absurd a a'
  · exact absurd a' a
  · exact absurd a' a
  · exact ⟨c.trans c'.symm, d.trans d'.symm⟩
theorem Sd_IV {X : St_} {e s t z : Int} {Y : St_} (h : IV_ X (fun _ => False)) (h1 : Sd_ X e s t z Y) : IV_ Y (fun _ => False) ∧ Y 19 0 = X 19 0 := by
  have h9 := h.1.1.2.2.1
  rcases h1 with ⟨a, b, c, d⟩ | ⟨a, b, c, d⟩ | ⟨a, c, d⟩
  · obtain ⟨i1, i2⟩ := sd_IV h (lim := t) b a.1 a.2
    obtain ⟨p1, p2, -, -⟩ := pl_IV i1 h9.1 (by rw [sd_9]; omega) i2
    rw [d]
    refine ⟨IV_congr p1 (fun c _ _ => ⟨fun q => q.2 q.1, fun q => q.elim⟩), ?_⟩
    rw [p2 19 (by decide) (by decide) (by decide) (by decide) (by decide), sd_ne _ _ _ _ (by decide)]
  · rw [d]; exact ⟨h, rfl⟩
  · rw [d]; exact ⟨h, rfl⟩
theorem Ps_fun {X : St_} {n z w : Int} {Y T : St_} (h1 : Ps_ X n z Y) (h2 : Ps_ X n w T) : z = w ∧ Y = T := by
  rcases h1 with ⟨a, b, c, d⟩ | ⟨a, c, d⟩ <;> rcases h2 with ⟨a', b', c', d'⟩ | ⟨a', c', d'⟩
  · exact ⟨c.trans c'.symm, d.trans d'.symm⟩
  · exact absurd ⟨a, b⟩ a'
  · exact absurd ⟨a', b'⟩ a
  · exact ⟨c.trans c'.symm, d.trans d'.symm⟩
theorem Jn_.moved {n : Nat} {X Y X' Y' T : St_} (h : Jn_ n X Y) (h1 : rgX_ X') (h2 : rgX_ Y') (hI : IV_ (co_ X') (fun _ => False)) (h19 : co_ X' 19 0 = co_ X 19 0) (hT : co_ X' = T) (hR : R_ T Y') : Jn_ (n + 1) X' Y' := by
  refine ⟨h1, h2, hI, by rw [hT]; exact hR, ?_⟩
  have := h.2.2.2.2
  rw [h19]
  push_cast
  omega
theorem stp_contact {n : Nat} {X Y : St_} (h : Jn_ n X Y) (a b c : Int) : Stp_ csX_contact csM_contact [a, b, c] n X Y := by
  refine ⟨h.2.2.1, fun z X' g1 hq => ⟨h.Mi, fun w Y' g2 hw => ?_⟩⟩
  have hq : Ct_ (co_ X) a b c z (co_ X') := hq
  obtain ⟨T, t1, t2⟩ := (show qM_contact a b c Y w Y' from hw) (co_ X) h.2.2.2.1 h.2.2.1
  obtain ⟨e1, e2⟩ := Ct_fun hq t1
  obtain ⟨i1, i2⟩ := Ct_IV h.2.2.1 hq
  exact ⟨e1, h.moved g1 g2 i1 i2 e2 t2⟩
theorem stp_cancel {n : Nat} {X Y : St_} (h : Jn_ n X Y) (a : Int) : Stp_ csX_cancel csM_cancel [a] n X Y := by
  refine ⟨h.2.2.1, fun z X' g1 hq => ⟨h.Mi, fun w Y' g2 hw => ?_⟩⟩
  have hq : Ca_ (co_ X) a z (co_ X') := hq
  obtain ⟨T, t1, t2⟩ := (show qM_cancel a Y w Y' from hw) (co_ X) h.2.2.2.1 h.2.2.1
  obtain ⟨e1, e2⟩ := Ca_fun hq t1
  obtain ⟨i1, i2⟩ := Ca_IV h.2.2.1 hq
  exact ⟨e1, h.moved g1 g2 i1 i2 e2 t2⟩
theorem stp_send {n : Nat} {X Y : St_} (h : Jn_ n X Y) (a b c : Int) : Stp_ csX_send csM_send [a, b, c] n X Y := by
  refine ⟨h.2.2.1, fun z X' g1 hq => ⟨h.Mi, fun w Y' g2 hw => ?_⟩⟩
  have hq : Sd_ (co_ X) a b c z (co_ X') := hq
  obtain ⟨T, t1, t2⟩ := (show qM_send a b c Y w Y' from hw) (co_ X) h.2.2.2.1 h.2.2.1
  obtain ⟨e1, e2⟩ := Sd_fun hq t1
  obtain ⟨i1, i2⟩ := Sd_IV h.2.2.1 hq
  exact ⟨e1, h.moved g1 g2 i1 i2 e2 t2⟩
theorem stp_booked {n : Nat} {X Y : St_} (h : Jn_ n X Y) (a : Int) : Stp_ csX_booked csM_booked [a] n X Y := by
  refine ⟨h.2.2.1, fun z X' g1 hq => ⟨h.Mi, fun w Y' g2 hw => ?_⟩⟩
  obtain ⟨q1, q2⟩ := (show qX_booked a X z X' from hq)
  obtain ⟨w1, w2⟩ := (show qM_booked a Y w Y' from hw)
  exact ⟨q1.trans (w2 _ h.2.2.2.1 h.2.2.1).symm, h.same g1 g2 q2 (by rw [w1]; exact h.2.2.2.1)⟩
theorem stp_time {n : Nat} {X Y : St_} (h : Jn_ n X Y) : Stp_ csX_time csM_time [] n X Y := by
  refine ⟨trivial, fun z X' g1 hq => ⟨trivial, fun w Y' g2 hw => ?_⟩⟩
  obtain ⟨q1, q2⟩ := (show qX_time X z X' from hq)
  obtain ⟨w1, w2⟩ := (show qM_time Y w Y' from hw)
  exact ⟨q1.trans (w2 _ h.2.2.2.1).symm, h.same g1 g2 q2 (by rw [w1]; exact h.2.2.2.1)⟩
theorem stp_state {n : Nat} {X Y : St_} (h : Jn_ n X Y) (a : Int) : Stp_ csX_state csM_state [a] n X Y := by
  refine ⟨h.2.2.1, fun z X' g1 hq => ⟨h.Mi, fun w Y' g2 hw => ?_⟩⟩
  obtain ⟨q1, q2⟩ := (show qX_state a X z X' from hq)
  obtain ⟨w1, w2⟩ := (show qM_state a Y w Y' from hw)
  exact ⟨q1.trans (w2 _ h.2.2.2.1 h.2.2.1).symm, h.same g1 g2 q2 (by rw [w1]; exact h.2.2.2.1)⟩
theorem stp_arrival {n : Nat} {X Y : St_} (h : Jn_ n X Y) (a : Int) : Stp_ csX_arrival csM_arrival [a] n X Y := by
  refine ⟨h.2.2.1, fun z X' g1 hq => ⟨h.Mi, fun w Y' g2 hw => ?_⟩⟩
  obtain ⟨q1, q2⟩ := (show qX_arrival a X z X' from hq)
  obtain ⟨w1, w2⟩ := (show qM_arrival a Y w Y' from hw)
  exact ⟨q1.trans (w2 _ h.2.2.2.1 h.2.2.1).symm, h.same g1 g2 q2 (by rw [w1]; exact h.2.2.2.1)⟩
theorem stp_hops {n : Nat} {X Y : St_} (h : Jn_ n X Y) (a : Int) : Stp_ csX_hops csM_hops [a] n X Y := by
  refine ⟨h.2.2.1, fun z X' g1 hq => ⟨h.Mi, fun w Y' g2 hw => ?_⟩⟩
  obtain ⟨q1, q2⟩ := (show qX_hops a X z X' from hq)
  obtain ⟨w1, w2⟩ := (show qM_hops a Y w Y' from hw)
  exact ⟨q1.trans (w2 _ h.2.2.2.1 h.2.2.1).symm, h.same g1 g2 q2 (by rw [w1]; exact h.2.2.2.1)⟩
theorem stp_hop {n : Nat} {X Y : St_} (h : Jn_ n X Y) (a b : Int) : Stp_ csX_hop csM_hop [a, b] n X Y := by
  refine ⟨h.2.2.1, fun z X' g1 hq => ⟨h.Mi, fun w Y' g2 hw => ?_⟩⟩
  obtain ⟨q1, q2⟩ := (show qX_hop a b X z X' from hq)
  obtain ⟨w1, w2⟩ := (show qM_hop a b Y w Y' from hw)
  exact ⟨q1.trans (w2 _ h.2.2.2.1 h.2.2.1).symm, h.same g1 g2 q2 (by rw [w1]; exact h.2.2.2.1)⟩
theorem stp_place {n : Nat} {X Y : St_} (h : Jn_ n X Y) (a : Int) : Stp_ csX_place csM_place [a] n X Y := by
  refine ⟨h.2.2.1, fun z X' g1 hq => ⟨h.Mi, fun w Y' g2 hw => ?_⟩⟩
  obtain ⟨q1, q2⟩ := (show qX_place a X z X' from hq)
  obtain ⟨w1, w2⟩ := (show qM_place a Y w Y' from hw)
  exact ⟨q1.trans (w2 _ h.2.2.2.1 h.2.2.1).symm, h.same g1 g2 q2 (by rw [w1]; exact h.2.2.2.1)⟩
theorem stp_quote {n : Nat} {X Y : St_} (h : Jn_ n X Y) (a b : Int) : Stp_ csX_quote csM_quote [a, b] n X Y := by
  refine ⟨h.2.2.1, fun z X' g1 hq => ⟨h.Mi, fun w Y' g2 hw => ?_⟩⟩
  obtain ⟨q1, q2⟩ := (show qX_quote a b X z X' from hq)
  obtain ⟨w1, w2⟩ := (show qM_quote a b Y w Y' from hw)
  exact ⟨q1.trans (w2 _ h.2.2.2.1 h.2.2.1).symm, h.same g1 g2 q2 (R_fr h.2.2.2.1 w1 (by decide))⟩
theorem stp_reach {n : Nat} {X Y : St_} (h : Jn_ n X Y) (a b c : Int) : Stp_ csX_reach csM_reach [a, b, c] n X Y := by
  refine ⟨h.2.2.1, fun z X' g1 hq => ⟨h.Mi, fun w Y' g2 hw => ?_⟩⟩
  obtain ⟨q1, q2⟩ := (show qX_reach a b c X z X' from hq)
  obtain ⟨w1, w2⟩ := (show qM_reach a b c Y w Y' from hw)
  exact ⟨q1.trans (w2 _ h.2.2.2.1 h.2.2.1).symm, h.same g1 g2 q2 (R_fr h.2.2.2.1 w1 (by decide))⟩
theorem stp_latest {n : Nat} {X Y : St_} (h : Jn_ n X Y) (a b c : Int) : Stp_ csX_latest csM_latest [a, b, c] n X Y := by
  refine ⟨h.2.2.1, fun z X' g1 hq => ⟨h.Mi, fun w Y' g2 hw => ?_⟩⟩
  obtain ⟨q1, q2⟩ := (show qX_latest a b c X z X' from hq)
  obtain ⟨w1, w2⟩ := (show qM_latest a b c Y w Y' from hw)
  exact ⟨Lt_uniq h.2.2.1.1.1.2.2.2.1.1 q1 (w2 _ h.2.2.2.1 h.2.2.1), h.same g1 g2 q2 (R_fr h.2.2.2.1 w1 (by decide))⟩
theorem stp_pass {n : Nat} {X Y : St_} (h : Jn_ n X Y) (hn : n ≤ 64) (a : Int) : Stp_ csX_pass csM_pass [a] n X Y := by
  have h19 := h.2.2.1.1.1.2.2.2.1
  have hle := h.2.2.2.2
  have e19 : co_ X 19 0 = X 19 0 := by rw [co_at X (by decide)]
  have e0 : Y 0 0 = co_ X 19 0 := h.2.2.2.1.1.1
  refine ⟨⟨by omega, by omega⟩, fun z X' g1 hq => ⟨⟨by omega, by omega⟩, fun w Y' g2 hw => ?_⟩⟩
  have hq : Ps_ (co_ X) a z (co_ X') := hq
  obtain ⟨T, t1, t2⟩ := (show qM_pass a Y w Y' from hw) (co_ X) h.2.2.2.1
  obtain ⟨e1, e2⟩ := Ps_fun hq t1
  refine ⟨e1, ?_⟩
  rcases hq with ⟨a1, a2, a3, a4⟩ | ⟨a1, a2, a3⟩
  · refine ⟨g1, g2, ?_, by rw [e2]; exact t2, ?_⟩
    · rw [a4]
      exact ps_IV h.2.2.1 (by omega) (by omega)
    · rw [a4, up_at]
      push_cast
      omega
  · exact h.same g1 g2 a3 (by rw [← a3, e2]; exact t2)
theorem Jn_0 : Jn_ 0 (fun _ _ => 0) (fun _ _ => 0) := by
  have hr : rgX_ (fun _ _ => 0) := fun f i => ⟨by show (-2147483648 : Int) ≤ 0; omega, by show (0 : Int) ≤ 2147483647; omega⟩
  have hc : co_ (fun _ _ => 0) = fun _ _ => 0 := by
    funext f i
    unfold co_
    split <;> rfl
  have hbk : ∀ b i, ¬ bk_ (fun _ _ => 0) b i := fun b i q => by
    have h1 : 0 ≤ b := q.1
    have h2 : b < 0 := q.2.1
    omega
  refine ⟨hr, hr, ?_, ?_, ?_⟩
  · rw [hc]
    refine ⟨⟨⟨⟨by show (0 : Int) ≤ 0; omega, by show (0 : Int) ≤ 10; omega, fun k h0 h1 => ?_⟩, fun k _ _ => Or.inl rfl, ⟨by show (0 : Int) ≤ 0; omega, by show (0 : Int) ≤ 10; omega⟩, ⟨by show (0 : Int) ≤ 0; omega, by show (0 : Int) ≤ 20000; omega⟩, fun b h0 h1 => ?_⟩, fun k t _ _ _ _ => Or.inr ⟨rfl, fun q => ?_⟩, fun b i c j hb _ _ _ => absurd hb (hbk b i)⟩, fun b h0 h1 => ?_⟩
    · have h1 : k < 0 := h1
      omega
    · have h1 : b < 0 := h1
      omega
    · obtain ⟨b, i, hb, -⟩ := q
      exact hbk b i hb
    · have h1 : b < 0 := h1
      omega
  · rw [hc]
    exact ⟨⟨rfl, rfl, rfl⟩, ⟨rfl, rfl, rfl, rfl, rfl, rfl, rfl⟩, ⟨rfl, rfl, rfl, rfl, rfl⟩, fun b h0 h1 => by
      have h1 : b < 0 := h1
      omega, fun b i hb => absurd hb (hbk b i)⟩
  · rw [hc]
    show (0 : Int) ≤ 200 * ((0 : Nat) : Int)
    omega
end
section
/-! THE LAW's CALLS: a call on one of the two objects; the script's loads; a case of the switch, whole -/
set_option maxRecDepth 100000
def R_law : String := "ContactNetworkLaw"
def isA_ (L : Ly_) (adr : Nat → Nat) (q : Nat) : Prop := q = adr L.1 ∨ ∃ k, k ∈ ar_ L ∧ q = adr k
theorem wd_isA {dd : ClassId × ClassId} {adr : Nat → Nat} {ci : Nat} {L : Ly_} {X : St_} {k : Nat} {q : Nat × va_E} (h : (wd_ dd adr ci L X)[k]? = some q) : isA_ L adr q.1 := by
  cases k with
  | zero =>
    unfold wd_ at h
    simp only [List.getElem?_cons_zero, Option.some.injEq] at h
    exact Or.inl (by rw [← h])
  | succ j =>
    unfold wd_ at h
    rw [List.getElem?_cons_succ, List.getElem?_map] at h
    cases hk : (ar_ L)[j]? with
    | none => rw [hk] at h; simp at h
    | some k =>
      rw [hk] at h
      simp only [Option.map_some, Option.some.injEq] at h
      exact Or.inr ⟨k, List.mem_of_getElem? hk, by rw [← h]; rfl⟩
theorem isA_wd {dd : ClassId × ClassId} {adr : Nat → Nat} {ci : Nat} {L : Ly_} (X : St_) {q : Nat} (h : isA_ L adr q) : ∃ (k : Nat) (e : va_E), (wd_ dd adr ci L X)[k]? = some (q, e) := by
  rcases h with h | ⟨k, hk, h⟩
  · exact ⟨0, _, by rw [h]; rfl⟩
  · obtain ⟨j, hj⟩ := List.getElem?_of_mem hk
    refine ⟨j + 1, (ac_ dd adr L X k).2, ?_⟩
    unfold wd_
    rw [List.getElem?_cons_succ, List.getElem?_map, hj, h]
    rfl
theorem Ap_of_D {A : Nat → Prop} {dd : ClassId × ClassId} {adr : Nat → Nat} {ci : Nat} {L : Ly_} {X : St_} (h : va_D A (wd_ dd adr ci L X)) : Ap_ L adr := by
  have key : ∀ j k, (ar_ L)[j]? = some k → (wd_ dd adr ci L X)[j + 1]? = some (ac_ dd adr L X k) := by
    intro j k hk
    unfold wd_
    rw [List.getElem?_cons_succ, List.getElem?_map, hk]
    rfl
  refine ⟨fun i j hi hj he => ?_, fun i hi he => ?_⟩
  · obtain ⟨a, ha⟩ := List.getElem?_of_mem hi
    obtain ⟨b, hb⟩ := List.getElem?_of_mem hj
    have := h.1 _ _ _ _ (key a i ha) (key b j hb) he
    have e : a = b := by omega
    subst e
    rw [ha] at hb
    exact Option.some.inj hb
  · obtain ⟨a, ha⟩ := List.getElem?_of_mem hi
    have := h.1 (a + 1) 0 _ _ (key a i ha) rfl he
    omega
theorem va_Pl {D : va_G} {cl : List vw_C} {w1 w2 : va_W} {H : Heap} (h : va_P D cl (w1 ++ w2) H) : va_P D cl w1 H := fun k q hq => h k q (by rw [List.getElem?_append_left (List.getElem?_eq_some_iff.mp hq).1]; exact hq)
theorem va_Pr {D : va_G} {cl : List vw_C} {w1 w2 : va_W} {H : Heap} (h : va_P D cl (w1 ++ w2) H) : va_P D cl w2 H := fun k q hq => h (w1.length + k) q (by rw [List.getElem?_append_right (by omega), Nat.add_sub_cancel_left]; exact hq)
/-- what a call of the law's stands on -/
def Cd_ (ci : Nat) (C : String) (L : Ly_) (idx : Nat) (cs : Cs_) : Prop := ∃ (y : MethodName) (bts : ByteArray) (mL lev : Nat), Cn_ ci L y bts mL lev cs ∧ GoodIn lw_all (wsV R_law idx C y (ws_ y bts mL (rt_ cs.2.2.1))) ∧ cs.2.1 = false ∧ cs.2.2.1 = 1 ∧ lev ≤ 10 ∧ mL ≤ 50 ∧
  (y.cls = C ∧ y.cls ≠ "java/lang/invoke/MethodHandle" ∧ y.cls ≠ "java/lang/invoke/VarHandle" ∧ (parseMethodDescriptor y.desc).map (fun d => d.parameters.length) = some cs.1)
section LC
variable {p : Program} {l : Launch} {e : Env} {s : State} {m : MethodId} {args : Array Value} {below : List Frame} {meth : Method} {c : Code} {H : Heap} {locs : List Loc} {D : va_G} {dd : ClassId × ClassId} {adr : Nat → Nat} {ci : Nat} {C : String} {T : u_T} {L : Ly_} {Q : State → Prop} {pc : Nat} {ls : Array Slot} {rest : List Value} {X : St_}
theorem lc_call (hx : p.tables.exec = Jvm.exec) (hb : c.code = code) (hml : c.maxLocals = 4) (hown : s.vm.findClass R_law = some m.cls) (hts : ∀ w ∈ lw_all, w.before args s = true) (hK : va_K D vwCl (ty2_ dd) s) (hKl : Kl_ ci C T L) {idx : Nat} {cs : Cs_} (hcd : Cd_ ci C L idx cs) (hAp : Ap_ L adr) (hadr : ∀ q, isA_ L adr q → s.heap.size ≤ q)
    {as : List Int} (hlen : as.length = cs.1) (hra : ∀ a ∈ as, zR a) (hX : rgX_ X) (hpre : cs.2.2.2.1 as X) (hP : va_P D vwCl (wd_ dd adr ci L X) H) (hS : va_S (fun q => s.heap.size ≤ q) s.heap H locs) (hls : ls.size = 4) (hrest : (rest.map fun v => v.category).sum ≤ 8) (hd : decode code pc = .ok (.invokevirtual idx, 3))
    (kk : ∀ (z : Int) (Y : St_) (H1 : Heap) (locs1 : List Loc), zR z → rgX_ Y → cs.2.2.2.2 as X z Y → va_P D vwCl (wd_ dd adr ci L Y) H1 → (∀ q : Nat, q < H.size → ¬ isA_ L adr q → H1[q]? = H[q]?) → va_S (fun q => s.heap.size ≤ q) s.heap H1 locs1 → W p l e room_1 s m args below meth c H1 locs1 600000 7290000 Q (F0 m (pc + 3) ls (.int (zI z) :: rest))) :
    W p l e room_1 s m args below meth c H locs 600000 7290000 Q (F0 m pc ls ((as.map (fun a => Value.int (zI a))).reverse ++ .ref (adr L.1) :: rest)) := by
  obtain ⟨y, bts, mL, lev, hM, hg, hst, hrk, hlev, hmL, hy⟩ := hcd
  have hMet := hM l D dd adr H.size as X hlen hra hX hAp hpre
  have hav : av_ cs.2.1 adr L as = .ref (adr L.1) :: as.map (fun a => .int (zI a)) := by unfold av_; rw [hst]; rfl
  rw [hav] at hMet
  rw [hrk] at hMet hg
  have hFr : ∀ q, Af_ L adr H.size q → s.heap.size ≤ q := by
    rintro q (h | h)
    · exact hadr q h
    · exact Nat.le_trans hS.1 h
  refine va_calli (A1 := Af_ L adr H.size) (a := (Value.ref (adr L.1) :: as.map (fun a => Value.int (zI a))).toArray) (va_runV (As := as.map (fun a => Value.int (zI a))) (rest := rest) (b := adr L.1) (C := C) (n := cs.1) ⟨hx, hb, hml, hown, hts⟩ hMet (cwV cs.1 hts hg rfl rfl rfl hy ⟨by show lev + 1 ≤ 11; omega, by show 8 + (mL + 11) + 40 * lev ≤ 472; omega⟩) ⟨Pz_blind, va_recv hK hP hKl.1 (q0 := 0) rfl, fun U hU hW => ⟨rfl, by rw [hU], by rw [hU]; exact hP, va_K.moved hW.alike hK⟩⟩ rfl (by rw [List.length_map]; exact hlen) hls rfl (lv_room hrest) hd ⟨Nat.le_refl _, Nat.le_refl _⟩) hS (fun q _ h => hFr q h) hFr (fun v u t H1 locs1 ht hvm hpost hB hz hk hS1 => ?_)
  obtain ⟨e1, e2, e3, e4⟩ := hpost
  subst e1
  exact kk u.1 u.2 H1 locs1 e2 e3 e4 (by rw [← ht]; exact hB.1) (fun q h1 h2 => hk q h1 (fun h => h.elim h2 (fun h => by omega))) hS1
end LC
def ldOK_ (pc c : Nat) : Bool := decide (decode code pc = .ok (.aload_n 0, 1)) && decide (decode code (pc + 1) = .ok (.iload_n 3, 1)) && decide (decode code (pc + 2) = .ok (.iconst (c : Int), 1)) && decide (decode code (pc + 3) = .ok (.iadd, 1)) && decide (decode code (pc + 4) = .ok (.iaload, 1))
def ldsOK_ (pc : Nat) : Nat → Bool
  | 0 => true
  | k + 1 => ldsOK_ pc k && ldOK_ (pc + 5 * k) (k + 1)
def caseOK_ (pc k ix im : Nat) (off : Int) : Bool := decide (decode code pc = .ok (.aload_n 1, 1)) && ldsOK_ (pc + 1) k && decide (decode code (pc + 1 + 5 * k) = .ok (.invokevirtual ix, 3)) && decide (decode code (pc + 1 + 5 * k + 3) = .ok (.aload_n 2, 1)) && ldsOK_ (pc + 1 + 5 * k + 3 + 1) k && decide (decode code (pc + 1 + 5 * k + 3 + 1 + 5 * k) = .ok (.invokevirtual im, 3)) && decide (decode code (pc + 1 + 5 * k + 3 + 1 + 5 * k + 3) = .ok (.if_icmp .eq off, 3)) && decide (((pc + 1 + 5 * k + 3 + 1 + 5 * k + 3 : Nat) : Int) + off = ((516 : Nat) : Int))
def sa_ (xs : Nat → Int32) (i : Nat) : Nat → List Int
  | 0 => []
  | k + 1 => sa_ xs i k ++ [(xs (i + (k + 1))).toInt]
theorem sa_len (xs : Nat → Int32) (i : Nat) : ∀ k, (sa_ xs i k).length = k
  | 0 => rfl
  | k + 1 => by
    show (sa_ xs i k ++ [_]).length = k + 1
    rw [List.length_append, sa_len xs i k]
    rfl
theorem sa_rg (xs : Nat → Int32) (i : Nat) : ∀ k, ∀ a ∈ sa_ xs i k, zR a
  | 0, a, h => by cases h
  | k + 1, a, h => by
    rcases List.mem_append.mp h with h | h
    · exact sa_rg xs i k a h
    · rw [List.mem_singleton.mp h]
      exact zR_of _
theorem zI_ofNat (n : Nat) : Int32.ofNat n = zI (n : Int) := by
  apply Int32.toBitVec_inj.mp
  show BitVec.ofNat 32 n = BitVec.ofInt 32 (n : Int)
  rw [BitVec.ofInt_natCast]
/-- the world between two calls of the law: two objects, apart -/
def Sp_ (aX aM : Nat → Nat) (sz : Nat) : Prop := Ap_ LX aX ∧ Ap_ LM aM ∧ (∀ q, isA_ LX aX q → sz ≤ q) ∧ (∀ q, isA_ LM aM q → sz ≤ q) ∧ ∀ q, isA_ LX aX q → ¬ isA_ LM aM q
def Lx_ (D : va_G) (dd : ClassId × ClassId) (aX aM : Nat → Nat) (X Y : St_) (H : Heap) : Prop := va_P D vwCl (wd_ dd aX 0 LX X) H ∧ va_P D vwCl (wd_ dd aM 1 LM Y) H
section LD
variable {p : Program} {l : Launch} {e : Env} {s : State} {m : MethodId} {b L : Nat} {xs : Nat → Int32} {below : List Frame} {meth : Method} {c : Code} {H : Heap} {locs : List Loc} {D : va_G} {dd : ClassId × ClassId} {aX aM : Nat → Nat} {Q : State → Prop} {pc : Nat} {ls : Array Slot} {rest : List Value} {X Y : St_} {i : Nat}
theorem law_ld (hx : p.tables.exec = Jvm.exec) (hb : c.code = code) (hXs : va_X b L xs s s.heap) (hbl : b < s.heap.size) (hS : va_S (fun q => s.heap.size ≤ q) s.heap H locs) (hL : L ≤ 256) (hl : lv_has ls 4 [(0, .ref b), (1, .ref (aX LX.1)), (2, .ref (aM LM.1)), (3, .int (zI (i : Int)))]) {k : Nat} (hik : i + k < L) (hd : ldOK_ pc k = true)
    (kk : W p l e room_1 s m #[Value.ref b] below meth c H locs 600000 7290000 Q (F0 m (pc + 5) ls (.int (zI (xs (i + k)).toInt) :: rest))) : W p l e room_1 s m #[Value.ref b] below meth c H locs 600000 7290000 Q (F0 m pc ls rest) := by
  simp only [ldOK_, Bool.and_eq_true, decide_eq_true_eq] at hd
  obtain ⟨⟨⟨⟨d0, d1⟩, d2⟩, d3⟩, d4⟩ := hd
  refine lv_aload_n hx hb d0 rfl (lv_at hl 0 rfl) ?_
  refine lv_iload_n hx hb d1 rfl (lv_at hl 3 rfl) ?_
  refine lv_iconst (v := zI (k : Int)) hx hb d2 rfl ?_
  refine lv_iadd hx hb d3 ?_
  rw [zI_add]
  refine va_sld hx hb hXs hbl (A := fun q => s.heap.size ≤ q) (Nat.not_le.mpr hbl) hS (zI_in ⟨by omega, by omega⟩ (by omega) (by omega)) d4 ?_
  rw [zI_clamp ⟨by omega, by omega⟩, show ((i : Int) + (k : Int)).toNat = i + k by omega]
  rw [zI_of] at kk
  exact kk
theorem law_lds (hx : p.tables.exec = Jvm.exec) (hb : c.code = code) (hXs : va_X b L xs s s.heap) (hbl : b < s.heap.size) (hS : va_S (fun q => s.heap.size ≤ q) s.heap H locs) (hL : L ≤ 256) (hl : lv_has ls 4 [(0, .ref b), (1, .ref (aX LX.1)), (2, .ref (aM LM.1)), (3, .int (zI (i : Int)))]) :
    ∀ (k : Nat), i + k < L → ldsOK_ pc k = true → W p l e room_1 s m #[Value.ref b] below meth c H locs 600000 7290000 Q (F0 m (pc + 5 * k) ls (((sa_ xs i k).map (fun a => Value.int (zI a))).reverse ++ rest)) → W p l e room_1 s m #[Value.ref b] below meth c H locs 600000 7290000 Q (F0 m pc ls rest) := by
  intro k
  induction k with
  | zero => intro _ _ kk; exact kk
  | succ k ih =>
    intro hik hd kk
    simp only [ldsOK_, Bool.and_eq_true] at hd
    refine ih (by omega) hd.1 (law_ld hx hb hXs hbl hS hL hl hik hd.2 ?_)
    have e : ((sa_ xs i (k + 1)).map (fun a => Value.int (zI a))).reverse ++ rest = .int (zI (xs (i + (k + 1))).toInt) :: (((sa_ xs i k).map (fun a => Value.int (zI a))).reverse ++ rest) := by
      show ((sa_ xs i k ++ [(xs (i + (k + 1))).toInt]).map (fun a => Value.int (zI a))).reverse ++ rest = _
      rw [List.map_append, List.reverse_append]
      rfl
    rw [e] at kk
    exact kk
theorem law_case (hx : p.tables.exec = Jvm.exec) (hb : c.code = code) (hml : c.maxLocals = 4) (hown : s.vm.findClass R_law = some m.cls) (hts : ∀ w ∈ lw_all, w.before #[Value.ref b] s = true) (hK : va_K D vwCl (ty2_ dd) s) (hSp : Sp_ aX aM s.heap.size) (hXs : va_X b L xs s s.heap) (hbl : b < s.heap.size) (hL : L ≤ 256)
    {cx cm : Cs_} {ix im k n : Nat} {off : Int} (hcx : Cd_ 0 RX0 LX ix cx) (hcm : Cd_ 1 RX1 LM im cm) (hkx : cx.1 = k) (hkm : cm.1 = k) (hd : caseOK_ pc k ix im off = true) (hik : i + k < L) (hstp : Stp_ cx cm (sa_ xs i k) n X Y) (hgX : rgX_ X) (hgY : rgX_ Y)
    (hl : lv_has ls 4 [(0, .ref b), (1, .ref (aX LX.1)), (2, .ref (aM LM.1)), (3, .int (zI (i : Int)))]) (hW : Lx_ D dd aX aM X Y H) (hS : va_S (fun q => s.heap.size ≤ q) s.heap H locs)
    (kk : ∀ (X' Y' : St_) (H1 : Heap) (locs1 : List Loc), Jn_ (n + 1) X' Y' → Lx_ D dd aX aM X' Y' H1 → va_S (fun q => s.heap.size ≤ q) s.heap H1 locs1 → W p l e room_1 s m #[Value.ref b] below meth c H1 locs1 600000 7290000 Q (F0 m 516 ls [])) :
    W p l e room_1 s m #[Value.ref b] below meth c H locs 600000 7290000 Q (F0 m pc ls []) := by
  simp only [caseOK_, Bool.and_eq_true, decide_eq_true_eq] at hd
  obtain ⟨⟨⟨⟨⟨⟨⟨d0, d1⟩, d2⟩, d3⟩, d4⟩, d5⟩, d6⟩, d7⟩ := hd
  obtain ⟨sA, sB, sC, sD, sE⟩ := hSp
  obtain ⟨hPX, hPM⟩ := hW
  obtain ⟨hpre, hstp⟩ := hstp
  refine lv_aload_n hx hb d0 rfl (lv_at hl 1 rfl) ?_
  refine law_lds hx hb hXs hbl hS hL hl k hik d1 ?_
  refine lc_call hx hb hml hown hts hK KlX hcx sA sC (by rw [sa_len]; exact hkx.symm) (sa_rg xs i k) hgX hpre hPX hS hl.1 (Nat.le_of_ble_eq_true rfl) d2 (fun z X' H1 locs1 hz hgX' hq hPX1 hk1 hS1 => ?_)
  have hPM1 : va_P D vwCl (wd_ dd aM 1 LM Y) H1 := hPM.kept (fun j q hj => hk1 q.1 (hPM j q hj).lt (fun h => sE q.1 h (wd_isA hj)))
  obtain ⟨hpre2, hstp⟩ := hstp z X' hgX' hq
  refine lv_aload_n hx hb d3 rfl (lv_at hl 2 rfl) ?_
  refine law_lds hx hb hXs hbl hS1 hL hl k hik d4 ?_
  refine lc_call hx hb hml hown hts hK KlM hcm sB sD (by rw [sa_len]; exact hkm.symm) (sa_rg xs i k) hgY hpre2 hPM1 hS1 hl.1 (Nat.le_of_ble_eq_true rfl) d5 (fun w Y' H2 locs2 hw hgY' hq2 hPM2 hk2 hS2 => ?_)
  have hPX2 : va_P D vwCl (wd_ dd aX 0 LX X') H2 := hPX1.kept (fun j q hj => hk2 q.1 (hPX1 j q hj).lt (sE q.1 (wd_isA hj)))
  obtain ⟨hzw, hJ⟩ := hstp w Y' hgY' hq2
  refine lv_icmp_eq (tgt := 516) hx hb d6 d7 (fun _ => ?_) (fun hne => absurd (by rw [hzw]) hne)
  exact kk X' Y' H2 locs2 hJ ⟨hPX2, hPM2⟩ hS2
end LD
end
section
/-! THE LAW's LOOP (printed by tools/gen_law.py) -/
set_option maxRecDepth 100000
theorem dL_law_0 : decode code 0 = .ok (.new 7, 3) := by decide +kernel
theorem dL_law_3 : decode code 3 = .ok (.dup, 1) := by decide +kernel
theorem dL_law_4 : decode code 4 = .ok (.invokespecial 9, 3) := by decide +kernel
theorem dL_law_7 : decode code 7 = .ok (.astore_n 1, 1) := by decide +kernel
theorem dL_law_8 : decode code 8 = .ok (.new 10, 3) := by decide +kernel
theorem dL_law_11 : decode code 11 = .ok (.dup, 1) := by decide +kernel
theorem dL_law_12 : decode code 12 = .ok (.invokespecial 12, 3) := by decide +kernel
theorem dL_law_15 : decode code 15 = .ok (.astore_n 2, 1) := by decide +kernel
theorem dL_law_16 : decode code 16 = .ok (.iconst 0, 1) := by decide +kernel
theorem dL_law_17 : decode code 17 = .ok (.istore_n 3, 1) := by decide +kernel
theorem dL_law_18 : decode code 18 = .ok (.iload_n 3, 1) := by decide +kernel
theorem dL_law_19 : decode code 19 = .ok (.aload_n 0, 1) := by decide +kernel
theorem dL_law_20 : decode code 20 = .ok (.arraylength, 1) := by decide +kernel
theorem dL_law_21 : decode code 21 = .ok (.iconst 4, 1) := by decide +kernel
theorem dL_law_22 : decode code 22 = .ok (.isub, 1) := by decide +kernel
theorem dL_law_23 : decode code 23 = .ok (.if_icmp .gt 499, 3) := by decide +kernel
theorem dL_law_26 : decode code 26 = .ok (.aload_n 0, 1) := by decide +kernel
theorem dL_law_27 : decode code 27 = .ok (.iload_n 3, 1) := by decide +kernel
theorem dL_law_28 : decode code 28 = .ok (.iaload, 1) := by decide +kernel
theorem dL_law_29 : decode code 29 = .ok (.bipush 15, 2) := by decide +kernel
theorem dL_law_31 : decode code 31 = .ok (.iand, 1) := by decide +kernel
theorem dL_law_32 : decode code 32 = .ok (.tableswitch 484 0 13 #[72, 115, 138, 161, 204, 227, 240, 263, 286, 309, 342, 365, 398, 441], 72) := by decide +kernel
theorem dL_law_516 : decode code 516 = .ok (.iinc 3 4, 3) := by decide +kernel
theorem dL_law_519 : decode code 519 = .ok (.goto (-501), 3) := by decide +kernel
theorem dL_law_522 : decode code 522 = .ok (.iconst 1, 1) := by decide +kernel
theorem dL_law_523 : decode code 523 = .ok (.ireturn, 1) := by decide +kernel
theorem cdX_contact : Cd_ 0 RX0 LX 13 csX_contact := ⟨yX0_contact, cX0_contact, 5, 8, okX_contact, lw_V q121 q122 q123 q33 q124, rfl, rfl, by decide, by decide, rfl, by decide, by decide, by decide +kernel⟩
theorem cdM_contact : Cd_ 1 RX1 LM 17 csM_contact := ⟨yX1_contact, cX1_contact, 4, 6, okM_contact, lw_V q346 q347 q348 q34 q349, rfl, rfl, by decide, by decide, rfl, by decide, by decide, by decide +kernel⟩
theorem cz_contact : caseOK_ 104 3 13 17 374 = true := by decide +kernel
theorem cdX_cancel : Cd_ 0 RX0 LX 18 csX_cancel := ⟨yX0_cancel, cX0_cancel, 5, 8, okX_cancel, lw_V q183 q184 q185 q33 q186, rfl, rfl, by decide, by decide, rfl, by decide, by decide, by decide +kernel⟩
theorem cdM_cancel : Cd_ 1 RX1 LM 22 csM_cancel := ⟨yX1_cancel, cX1_cancel, 6, 6, okM_cancel, lw_V q398 q399 q400 q34 q401, rfl, rfl, by decide, by decide, rfl, by decide, by decide, by decide +kernel⟩
theorem cz_cancel : caseOK_ 147 1 18 22 351 = true := by decide +kernel
theorem cdX_booked : Cd_ 0 RX0 LX 23 csX_booked := ⟨yX0_booked, cX0_booked, 4, 1, okX_booked, lw_V q199 q200 q201 q33 q202, rfl, rfl, by decide, by decide, rfl, by decide, by decide, by decide +kernel⟩
theorem cdM_booked : Cd_ 1 RX1 LM 26 csM_booked := ⟨yX1_booked, cX1_booked, 5, 1, okM_booked, lw_V q406 q407 q408 q34 q409, rfl, rfl, by decide, by decide, rfl, by decide, by decide, by decide +kernel⟩
theorem cz_booked : caseOK_ 170 1 23 26 328 = true := by decide +kernel
theorem cdX_send : Cd_ 0 RX0 LX 27 csX_send := ⟨yX0_send, cX0_send, 5, 7, okX_send, lw_V q203 q204 q205 q33 q206, rfl, rfl, by decide, by decide, rfl, by decide, by decide, by decide +kernel⟩
theorem cdM_send : Cd_ 1 RX1 LM 30 csM_send := ⟨yX1_send, cX1_send, 5, 5, okM_send, lw_V q410 q411 q412 q34 q413, rfl, rfl, by decide, by decide, rfl, by decide, by decide, by decide +kernel⟩
theorem cz_send : caseOK_ 193 3 27 30 285 = true := by decide +kernel
theorem cdX_pass : Cd_ 0 RX0 LX 31 csX_pass := ⟨yX0_pass, cX0_pass, 2, 0, okX_pass, lw_V q210 q211 q212 q33 q213, rfl, rfl, by decide, by decide, rfl, by decide, by decide, by decide +kernel⟩
theorem cdM_pass : Cd_ 1 RX1 LM 34 csM_pass := ⟨yX1_pass, cX1_pass, 2, 0, okM_pass, lw_V q418 q419 q420 q34 q421, rfl, rfl, by decide, by decide, rfl, by decide, by decide, by decide +kernel⟩
theorem cz_pass : caseOK_ 236 1 31 34 262 = true := by decide +kernel
theorem cdX_time : Cd_ 0 RX0 LX 35 csX_time := ⟨yX0_time, cX0_time, 1, 0, okX_time, lw_V q214 q215 q216 q33 q217, rfl, rfl, by decide, by decide, rfl, by decide, by decide, by decide +kernel⟩
theorem cdM_time : Cd_ 1 RX1 LM 39 csM_time := ⟨yX1_time, cX1_time, 1, 0, okM_time, lw_V q422 q423 q424 q34 q425, rfl, rfl, by decide, by decide, rfl, by decide, by decide, by decide +kernel⟩
theorem cz_time : caseOK_ 259 0 35 39 249 = true := by decide +kernel
theorem cdX_state : Cd_ 0 RX0 LX 40 csX_state := ⟨yX0_state, cX0_state, 2, 2, okX_state, lw_V q218 q219 q220 q33 q221, rfl, rfl, by decide, by decide, rfl, by decide, by decide, by decide +kernel⟩
theorem cdM_state : Cd_ 1 RX1 LM 43 csM_state := ⟨yX1_state, cX1_state, 2, 3, okM_state, lw_V q426 q427 q428 q34 q429, rfl, rfl, by decide, by decide, rfl, by decide, by decide, by decide +kernel⟩
theorem cz_state : caseOK_ 272 1 40 43 226 = true := by decide +kernel
theorem cdX_arrival : Cd_ 0 RX0 LX 44 csX_arrival := ⟨yX0_arrival, cX0_arrival, 2, 2, okX_arrival, lw_V q226 q227 q228 q33 q229, rfl, rfl, by decide, by decide, rfl, by decide, by decide, by decide +kernel⟩
theorem cdM_arrival : Cd_ 1 RX1 LM 47 csM_arrival := ⟨yX1_arrival, cX1_arrival, 2, 3, okM_arrival, lw_V q434 q435 q436 q34 q437, rfl, rfl, by decide, by decide, rfl, by decide, by decide, by decide +kernel⟩
theorem cz_arrival : caseOK_ 295 1 44 47 203 = true := by decide +kernel
theorem cdX_hops : Cd_ 0 RX0 LX 48 csX_hops := ⟨yX0_hops, cX0_hops, 2, 1, okX_hops, lw_V q230 q231 q232 q33 q233, rfl, rfl, by decide, by decide, rfl, by decide, by decide, by decide +kernel⟩
theorem cdM_hops : Cd_ 1 RX1 LM 51 csM_hops := ⟨yX1_hops, cX1_hops, 2, 1, okM_hops, lw_V q438 q439 q440 q34 q441, rfl, rfl, by decide, by decide, rfl, by decide, by decide, by decide +kernel⟩
theorem cz_hops : caseOK_ 318 1 48 51 180 = true := by decide +kernel
theorem cdX_hop : Cd_ 0 RX0 LX 52 csX_hop := ⟨yX0_hop, cX0_hop, 3, 1, okX_hop, lw_V q234 q235 q236 q33 q237, rfl, rfl, by decide, by decide, rfl, by decide, by decide, by decide +kernel⟩
theorem cdM_hop : Cd_ 1 RX1 LM 56 csM_hop := ⟨yX1_hop, cX1_hop, 3, 1, okM_hop, lw_V q442 q443 q444 q34 q445, rfl, rfl, by decide, by decide, rfl, by decide, by decide, by decide +kernel⟩
theorem cz_hop : caseOK_ 341 2 52 56 147 = true := by decide +kernel
theorem cdX_place : Cd_ 0 RX0 LX 57 csX_place := ⟨yX0_place, cX0_place, 4, 2, okX_place, lw_V q238 q239 q240 q33 q241, rfl, rfl, by decide, by decide, rfl, by decide, by decide, by decide +kernel⟩
theorem cdM_place : Cd_ 1 RX1 LM 60 csM_place := ⟨yX1_place, cX1_place, 4, 2, okM_place, lw_V q446 q447 q448 q34 q449, rfl, rfl, by decide, by decide, rfl, by decide, by decide, by decide +kernel⟩
theorem cz_place : caseOK_ 374 1 57 60 124 = true := by decide +kernel
theorem cdX_quote : Cd_ 0 RX0 LX 61 csX_quote := ⟨yX0_quote, cX0_quote, 4, 3, okX_quote, lw_V q242 q243 q244 q33 q245, rfl, rfl, by decide, by decide, rfl, by decide, by decide, by decide +kernel⟩
theorem cdM_quote : Cd_ 1 RX1 LM 64 csM_quote := ⟨yX1_quote, cX1_quote, 3, 4, okM_quote, lw_V q450 q451 q452 q34 q453, rfl, rfl, by decide, by decide, rfl, by decide, by decide, by decide +kernel⟩
theorem cz_quote : caseOK_ 397 2 61 64 91 = true := by decide +kernel
theorem cdX_reach : Cd_ 0 RX0 LX 65 csX_reach := ⟨yX0_reach, cX0_reach, 6, 3, okX_reach, lw_V q246 q247 q248 q33 q249, rfl, rfl, by decide, by decide, rfl, by decide, by decide, by decide +kernel⟩
theorem cdM_reach : Cd_ 1 RX1 LM 68 csM_reach := ⟨yX1_reach, cX1_reach, 6, 4, okM_reach, lw_V q454 q455 q456 q34 q457, rfl, rfl, by decide, by decide, rfl, by decide, by decide, by decide +kernel⟩
theorem cz_reach : caseOK_ 430 3 65 68 48 = true := by decide +kernel
theorem cdX_latest : Cd_ 0 RX0 LX 69 csX_latest := ⟨yX0_latest, cX0_latest, 8, 4, okX_latest, lw_V q250 q251 q252 q33 q253, rfl, rfl, by decide, by decide, rfl, by decide, by decide, by decide +kernel⟩
theorem cdM_latest : Cd_ 1 RX1 LM 72 csM_latest := ⟨yX1_latest, cX1_latest, 5, 4, okM_latest, lw_V q458 q459 q460 q34 q461, rfl, rfl, by decide, by decide, rfl, by decide, by decide, by decide +kernel⟩
theorem cz_latest : caseOK_ 473 3 69 72 5 = true := by decide +kernel
def lw_P (b : Addr) (xs : List Int32) (args : Array Value) (s : State) : Prop := args = #[.ref b] ∧ s.IntsAt b xs ∧ xs.length ≤ 256 ∧ (Jvm.Cond.and given_1 narrow_1).before args s = true
def lw_Q (_ : Array Value) (s : State) (o : Outcome) (t : State) : Prop := o = .returned (some (.int 1)) ∧ Framed s o t [] 600000 7290000
def lw_Z (below : List Frame) (a : Array Value) (s : State) : State → Prop := fun t => ∃ o, t.status = .running ∧ Ended t below o ∧ lw_Q a s o t
/-- the law's own end, with 1 on the stack, nothing written that was there before, its room as the claim has it -/
theorem lw_ret {p : Program} {l : Launch} {e : Env} {s : State} {m : MethodId} {below : List Frame} {meth : Method} {c : Code} {b : Nat} (hx : p.tables.exec = Jvm.exec) (hb : c.code = code) (hr : meth.sig.returnType = ret) (hlocks : meth.locks = false) {pc : Nat} {H : Heap} {ls : Array Slot} (hdg : decode code pc = .ok (.ireturn, 1)) : W p l e room_1 s m #[Value.ref b] below meth c H [] 600000 7290000 (lw_Z below #[Value.ref b] s) (F0 m pc ls [.int 1]) := by
  intro T hT X
  obtain ⟨fs, hret, hrun, hended, hW, hframe⟩ := X.leave (v := some (.int 1)) (hlocks := hlocks) (fun h => by rw [hr] at h; cases h)
  have hmeth' : T.vm.method? m = some meth := X.method'
  refine ⟨T.setFrames fs, ?_, .returned (some (.int 1)), hrun, hended, rfl, ⟨_, rfl⟩, hW, hframe⟩
  jvm_step X.here [X.here.top, hx, hb, hdg, hmeth', hr, ret, narrow_b1]
  (try refine ⟨rfl, ?_⟩); (try refine ⟨rfl, ?_⟩)
  first | (intro acts; rw [hret _ acts rfl rfl rfl]) | rw [hret _ _ rfl rfl rfl]
  exact Steps.refl _
/-- what holds at the law's entry: the machine, the code, the tables' words (any of lw_tbl by 'hts w (by decide +kernel)'), the script of L ints xs at the cell b, what the Statement gives of the start (any of its parts by flat_of_before) -/
def lw_At (p : Program) (s : State) (m : MethodId) (meth : Method) (c : Code) (b L : Nat) (xs : Nat → Int32) : Prop :=
  p.tables.exec = Jvm.exec ∧ c.code = code ∧ meth.sig.returnType = ret ∧ c.maxLocals = 4 ∧ s.vm.findClass R_law = some m.cls ∧ (∀ w ∈ lw_tbl, w.before #[Value.ref b] s = true) ∧ va_X b L xs s s.heap ∧ b < s.heap.size ∧ meth.locks = false ∧ (Jvm.Cond.and given_1 narrow_1).before #[Value.ref b] s = true
set_option maxHeartbeats 4000000 in
theorem law_loop {p : Program} {l : Launch} {e : Env} {s : State} {m : MethodId} {b L : Nat} {xs : Nat → Int32} {below : List Frame} {meth : Method} {c : Code} {D : va_G} {dd : ClassId × ClassId} {aX aM : Nat → Nat} (hL : L ≤ 256) (C0 : lw_At p s m meth c b L xs) (hK : va_K D vwCl (ty2_ dd) s) (hSp : Sp_ aX aM s.heap.size) :
    ∀ (d n : Nat), L ≤ 4 * n + 4 * d → n ≤ 64 → ∀ (X Y : St_) (H : Heap) (locs : List Loc) (ls : Array Slot), Jn_ n X Y → Lx_ D dd aX aM X Y H → va_S (fun q => s.heap.size ≤ q) s.heap H locs → lv_has ls 4 [(0, .ref b), (1, .ref (aX LX.1)), (2, .ref (aM LM.1)), (3, .int (zI ((4 * n : Nat) : Int)))] → W p l e room_1 s m #[Value.ref b] below meth c H locs 600000 7290000 (lw_Z below #[Value.ref b] s) (F0 m 18 ls []) := by
  obtain ⟨hx, hb, hr, hml, hown, hts0, hXs, hbl, hlocks, hgv⟩ := id C0
  have hts : ∀ w ∈ lw_all, w.before #[Value.ref b] s = true := fun w h => hts0 w (lw_all_tbl h)
  have hbA : ¬ (fun q : Nat => s.heap.size ≤ q) b := Nat.not_le.mpr hbl
  intro d
  induction d with
  | zero =>
    intro n hd hn X Y H locs ls hJ hW hS hl
    refine lv_iload_n hx hb dL_law_18 rfl (lv_at hl 3 rfl) ?_
    refine lv_aload_n hx hb dL_law_19 rfl (lv_at hl 0 rfl) ?_
    refine va_slen hx hb hXs hbl hbA hS dL_law_20 ?_
    refine lv_iconst (v := zI 4) hx hb dL_law_21 rfl ?_
    refine lv_isub hx hb dL_law_22 ?_
    rw [zI_ofNat, zI_sub]
    refine lv_icmp_gt (tgt := 522) hx hb dL_law_23 (by decide) (fun _ => ?_) (fun q => ?_)
    · refine lv_iconst (v := 1) hx hb dL_law_522 (by decide) ?_
      refine va_forget (fun q hq => hS.2.2 q hq) ?_
      exact lw_ret hx hb hr hlocks dL_law_523
    · exact absurd ((zI_lt ⟨by omega, by omega⟩ ⟨by omega, by omega⟩).mpr (by omega)) q
  | succ d ih =>
    intro n hd hn X Y H locs ls hJ hW hS hl
    refine lv_iload_n hx hb dL_law_18 rfl (lv_at hl 3 rfl) ?_
    refine lv_aload_n hx hb dL_law_19 rfl (lv_at hl 0 rfl) ?_
    refine va_slen hx hb hXs hbl hbA hS dL_law_20 ?_
    refine lv_iconst (v := zI 4) hx hb dL_law_21 rfl ?_
    refine lv_isub hx hb dL_law_22 ?_
    rw [zI_ofNat, zI_sub]
    refine lv_icmp_gt (tgt := 522) hx hb dL_law_23 (by decide) (fun _ => ?_) (fun q => ?_)
    · refine lv_iconst (v := 1) hx hb dL_law_522 (by decide) ?_
      refine va_forget (fun q hq => hS.2.2 q hq) ?_
      exact lw_ret hx hb hr hlocks dL_law_523
    · have hlt : 4 * n + 4 ≤ L := by
        apply Nat.le_of_not_lt
        intro hlt
        exact q ((zI_lt ⟨by omega, by omega⟩ ⟨by omega, by omega⟩).mpr (by omega))
      have back : ∀ (X' Y' : St_) (H1 : Heap) (locs1 : List Loc), Jn_ (n + 1) X' Y' → Lx_ D dd aX aM X' Y' H1 → va_S (fun q => s.heap.size ≤ q) s.heap H1 locs1 → W p l e room_1 s m #[Value.ref b] below meth c H1 locs1 600000 7290000 (lw_Z below #[Value.ref b] s) (F0 m 516 ls []) := by
        intro X' Y' H1 locs1 hJ1 hW1 hS1
        refine lv_iinc (v := zI ((4 * (n + 1) : Nat) : Int)) (lv' := [(3, .int (zI ((4 * (n + 1) : Nat) : Int))), (0, .ref b), (1, .ref (aX LX.1)), (2, .ref (aM LM.1))]) hx hb dL_law_516 hl (k := 3) rfl ?_ (by decide) rfl (fun ls hl => ?_)
        · show zI ((4 * n : Nat) : Int) + zI 4 = _
          rw [zI_add]
          congr 1
        refine lv_goto (tgt := 18) hx hb dL_law_519 (by decide) ?_
        exact ih (n + 1) (by omega) (by omega) X' Y' H1 locs1 ls hJ1 hW1 hS1 (lv_sub hl [1, 2, 3, 0] rfl)
      refine lv_aload_n hx hb dL_law_26 rfl (lv_at hl 0 rfl) ?_
      refine lv_iload_n hx hb dL_law_27 rfl (lv_at hl 3 rfl) ?_
      refine va_sld hx hb hXs hbl hbA hS (zI_in ⟨by omega, by omega⟩ (by omega) (by omega)) dL_law_28 ?_
      refine lv_bipush (v := 15) hx hb dL_law_29 (by decide) ?_
      refine lv_iand hx hb dL_law_31 ?_
      refine lv_topi (fun v _ => ?_)
      by_cases hv : v.toInt < 0 ∨ 13 < v.toInt
      · refine lv_tableOut (tgt := 516) hx hb dL_law_32 hv (by decide) ?_
        exact back X Y H locs (hJ.same hJ.1 hJ.2.1 rfl hJ.2.2.2.1) hW hS
      · have h1 : ¬ v.toInt < 0 := fun q => hv (Or.inl q)
        have h2 : ¬ 13 < v.toInt := fun q => hv (Or.inr q)
        rcases (show v.toInt = 0 ∨ v.toInt = 1 ∨ v.toInt = 2 ∨ v.toInt = 3 ∨ v.toInt = 4 ∨ v.toInt = 5 ∨ v.toInt = 6 ∨ v.toInt = 7 ∨ v.toInt = 8 ∨ v.toInt = 9 ∨ v.toInt = 10 ∨ v.toInt = 11 ∨ v.toInt = 12 ∨ v.toInt = 13 by omega) with ev | ev | ev | ev | ev | ev | ev | ev | ev | ev | ev | ev | ev | ev
        · refine lv_tableIn (off := 72) (tgt := 104) hx hb dL_law_32 h1 h2 (by rw [ev]; rfl) (by decide) ?_
          exact law_case (k := 3) hx hb hml hown hts hK hSp hXs hbl hL cdX_contact cdM_contact rfl rfl cz_contact (by omega) (stp_contact hJ _ _ _) hJ.1 hJ.2.1 hl hW hS back
        · refine lv_tableIn (off := 115) (tgt := 147) hx hb dL_law_32 h1 h2 (by rw [ev]; rfl) (by decide) ?_
          exact law_case (k := 1) hx hb hml hown hts hK hSp hXs hbl hL cdX_cancel cdM_cancel rfl rfl cz_cancel (by omega) (stp_cancel hJ _) hJ.1 hJ.2.1 hl hW hS back
        · refine lv_tableIn (off := 138) (tgt := 170) hx hb dL_law_32 h1 h2 (by rw [ev]; rfl) (by decide) ?_
          exact law_case (k := 1) hx hb hml hown hts hK hSp hXs hbl hL cdX_booked cdM_booked rfl rfl cz_booked (by omega) (stp_booked hJ _) hJ.1 hJ.2.1 hl hW hS back
        · refine lv_tableIn (off := 161) (tgt := 193) hx hb dL_law_32 h1 h2 (by rw [ev]; rfl) (by decide) ?_
          exact law_case (k := 3) hx hb hml hown hts hK hSp hXs hbl hL cdX_send cdM_send rfl rfl cz_send (by omega) (stp_send hJ _ _ _) hJ.1 hJ.2.1 hl hW hS back
        · refine lv_tableIn (off := 204) (tgt := 236) hx hb dL_law_32 h1 h2 (by rw [ev]; rfl) (by decide) ?_
          exact law_case (k := 1) hx hb hml hown hts hK hSp hXs hbl hL cdX_pass cdM_pass rfl rfl cz_pass (by omega) (stp_pass hJ hn _) hJ.1 hJ.2.1 hl hW hS back
        · refine lv_tableIn (off := 227) (tgt := 259) hx hb dL_law_32 h1 h2 (by rw [ev]; rfl) (by decide) ?_
          exact law_case (k := 0) hx hb hml hown hts hK hSp hXs hbl hL cdX_time cdM_time rfl rfl cz_time (by omega) (stp_time hJ) hJ.1 hJ.2.1 hl hW hS back
        · refine lv_tableIn (off := 240) (tgt := 272) hx hb dL_law_32 h1 h2 (by rw [ev]; rfl) (by decide) ?_
          exact law_case (k := 1) hx hb hml hown hts hK hSp hXs hbl hL cdX_state cdM_state rfl rfl cz_state (by omega) (stp_state hJ _) hJ.1 hJ.2.1 hl hW hS back
        · refine lv_tableIn (off := 263) (tgt := 295) hx hb dL_law_32 h1 h2 (by rw [ev]; rfl) (by decide) ?_
          exact law_case (k := 1) hx hb hml hown hts hK hSp hXs hbl hL cdX_arrival cdM_arrival rfl rfl cz_arrival (by omega) (stp_arrival hJ _) hJ.1 hJ.2.1 hl hW hS back
        · refine lv_tableIn (off := 286) (tgt := 318) hx hb dL_law_32 h1 h2 (by rw [ev]; rfl) (by decide) ?_
          exact law_case (k := 1) hx hb hml hown hts hK hSp hXs hbl hL cdX_hops cdM_hops rfl rfl cz_hops (by omega) (stp_hops hJ _) hJ.1 hJ.2.1 hl hW hS back
        · refine lv_tableIn (off := 309) (tgt := 341) hx hb dL_law_32 h1 h2 (by rw [ev]; rfl) (by decide) ?_
          exact law_case (k := 2) hx hb hml hown hts hK hSp hXs hbl hL cdX_hop cdM_hop rfl rfl cz_hop (by omega) (stp_hop hJ _ _) hJ.1 hJ.2.1 hl hW hS back
        · refine lv_tableIn (off := 342) (tgt := 374) hx hb dL_law_32 h1 h2 (by rw [ev]; rfl) (by decide) ?_
          exact law_case (k := 1) hx hb hml hown hts hK hSp hXs hbl hL cdX_place cdM_place rfl rfl cz_place (by omega) (stp_place hJ _) hJ.1 hJ.2.1 hl hW hS back
        · refine lv_tableIn (off := 365) (tgt := 397) hx hb dL_law_32 h1 h2 (by rw [ev]; rfl) (by decide) ?_
          exact law_case (k := 2) hx hb hml hown hts hK hSp hXs hbl hL cdX_quote cdM_quote rfl rfl cz_quote (by omega) (stp_quote hJ _ _) hJ.1 hJ.2.1 hl hW hS back
        · refine lv_tableIn (off := 398) (tgt := 430) hx hb dL_law_32 h1 h2 (by rw [ev]; rfl) (by decide) ?_
          exact law_case (k := 3) hx hb hml hown hts hK hSp hXs hbl hL cdX_reach cdM_reach rfl rfl cz_reach (by omega) (stp_reach hJ _ _ _) hJ.1 hJ.2.1 hl hW hS back
        · refine lv_tableIn (off := 441) (tgt := 473) hx hb dL_law_32 h1 h2 (by rw [ev]; rfl) (by decide) ?_
          exact law_case (k := 3) hx hb hml hown hts hK hSp hXs hbl hL cdX_latest cdM_latest rfl rfl cz_latest (by omega) (stp_latest hJ _ _ _) hJ.1 hJ.2.1 hl hW hS back
end
section
/-! THE CLAIM: whole_start; behind it the skeleton's own rows (SKELETON.whole, a starting text) -/
set_option maxRecDepth 100000
theorem dfX (adr : Nat → Nat) : ∀ j, j < 25 → defaultValue (tyX0 j) = vp_V (ifs_ adr LX []) j := by
  intro j hj
  match j, hj with
  | 0, _ => exact congrArg Value.int zI_0.symm
  | 1, _ => exact rfl
  | 2, _ => exact rfl
  | 3, _ => exact rfl
  | 4, _ => exact rfl
  | 5, _ => exact rfl
  | 6, _ => exact rfl
  | 7, _ => exact rfl
  | 8, _ => exact rfl
  | 9, _ => exact congrArg Value.int zI_0.symm
  | 10, _ => exact rfl
  | 11, _ => exact rfl
  | 12, _ => exact rfl
  | 13, _ => exact rfl
  | 14, _ => exact rfl
  | 15, _ => exact rfl
  | 16, _ => exact rfl
  | 17, _ => exact rfl
  | 18, _ => exact rfl
  | 19, _ => exact congrArg Value.int zI_0.symm
  | 20, _ => exact congrArg Value.int zI_0.symm
  | 21, _ => exact rfl
  | 22, _ => exact rfl
  | 23, _ => exact rfl
  | 24, _ => exact rfl
  | k + 25, h => exact absurd h (by omega)
theorem dfM (adr : Nat → Nat) : ∀ j, j < 27 → defaultValue (tyX1 j) = vp_V (ifs_ adr LM []) j := by
  intro j hj
  match j, hj with
  | 0, _ => exact congrArg Value.int zI_0.symm
  | 1, _ => exact congrArg Value.int zI_0.symm
  | 2, _ => exact rfl
  | 3, _ => exact rfl
  | 4, _ => exact rfl
  | 5, _ => exact rfl
  | 6, _ => exact rfl
  | 7, _ => exact rfl
  | 8, _ => exact rfl
  | 9, _ => exact congrArg Value.int zI_0.symm
  | 10, _ => exact rfl
  | 11, _ => exact rfl
  | 12, _ => exact rfl
  | 13, _ => exact rfl
  | 14, _ => exact rfl
  | 15, _ => exact rfl
  | 16, _ => exact rfl
  | 17, _ => exact rfl
  | 18, _ => exact rfl
  | 19, _ => exact rfl
  | 20, _ => exact rfl
  | 21, _ => exact rfl
  | 22, _ => exact rfl
  | 23, _ => exact congrArg Value.int zI_0.symm
  | 24, _ => exact congrArg Value.int zI_0.symm
  | 25, _ => exact rfl
  | 26, _ => exact rfl
  | k + 27, h => exact absurd h (by omega)
theorem ifs_nil (a b : Nat → Nat) (L : Ly_) : ifs_ a L [] = ifs_ b L [] := by
  unfold ifs_
  apply List.map_congr_left
  intro k _
  rw [if_neg List.not_mem_nil, if_neg List.not_mem_nil]
theorem iw_nil {dd : ClassId × ClassId} {h0 ci : Nat} {L : Ly_} : iw_ dd (fun _ => h0) ci L [] = [(h0, .inr (ci, ifs_ (fun _ => 0) L []))] := by
  unfold iw_
  rw [ifs_nil (fun _ => h0) (fun _ => 0) L]
  rfl
set_option maxHeartbeats 4000000 in
/-- from the entry, for every script of at most 256 ints, the law comes to its end with true -/
theorem whole_start {p : Program} {e : Env} {s : State} {m : MethodId} {below : List Frame} {meth : Method} {c : Code} (l : Launch) {b L : Nat} {xs : Nat → Int32} (hL : L ≤ 256) (C0 : lw_At p s m meth c b L xs) : W p l e room_1 s m #[Value.ref b] below meth c s.heap [] 0 0 (lw_Z below #[Value.ref b] s) (entryFrame m ([Value.ref b] : List Value).toArray 4) := by
  obtain ⟨hx, hb, hr, hml, hown, hts0, hXs, hbl, hlocks, hgv⟩ := id C0
  have hts : ∀ w ∈ lw_all, w.before #[Value.ref b] s = true := fun w h => hts0 w (lw_all_tbl h)
  have hA : ∀ q : Nat, s.heap.size ≤ q → (fun q : Nat => s.heap.size ≤ q) q := fun _ h => h
  obtain ⟨c0, iS0, hKn0⟩ := u_known (C := RX0) (T := TX0) (N := 25) (n := 25) hts in_X0 (hts _ q36)
  obtain ⟨c1, iS1, hKn1⟩ := u_known (C := RX1) (T := TX1) (N := 27) (n := 27) hts in_X1 (hts _ q259)
  obtain ⟨dC, dI, hKc⟩ : ∃ (dC : Nat → ClassId) (dI : Nat → Nat → Nat), ∀ (k : Nat) (q : vw_C), vwCl[k]? = some q → u_Kn s q.1 q.2.1 q.2.2 (dC k) (dI k) := by
    refine ⟨fun k => if k = 0 then c0 else c1, fun k => if k = 0 then iS0 else iS1, ?_⟩
    intro k q hq
    match k, hq with
    | 0, hq => cases hq; exact hKn0
    | 1, hq => cases hq; exact hKn1
    | k + 2, hq => simp [vwCl] at hq
  obtain ⟨cI, kI, compI, i1, i2, i3⟩ := Cond.arrayClass_spec (hts _ q120)
  obtain ⟨cZ, kZ, compZ, z1, z2, z3⟩ := Cond.arrayClass_spec (hts _ q119)
  have hK : va_K (dC, dI) vwCl (ty2_ (cI, cZ)) s := by
    refine ⟨hKc, fun k q hq => ?_⟩
    match k, hq with
    | 0, hq => cases hq; exact ⟨fun n z => ⟨fun k h => (by cases h), kI, i2, compI, i3⟩, i1⟩
    | 1, hq => cases hq; exact ⟨fun n z => ⟨fun k h => (by cases h), kZ, z2, compZ, z3⟩, z1⟩
    | k + 2, hq => simp [ty2_] at hq
  generalize (cI, cZ) = dd at hK
  have hS : va_S (fun q : Nat => s.heap.size ≤ q) s.heap s.heap [] := va_S.rf
  have hP : va_P (dC, dI) vwCl [] s.heap := fun k q h => by simp at h
  have hD : va_D (fun q : Nat => s.heap.size ≤ q) [] := ⟨fun i j p q h => by simp at h, fun k q h => by simp at h⟩
  have hl := lv_entry ([.ref b]) (n := 4) (Nat.le_of_ble_eq_true rfl)
  rw [lg_entry_eq]
  generalize (lg_sl ([.ref b]) ++ List.replicate (4 - (lg_sl ([.ref b])).length) Slot.unset).toArray = ls at hl ⊢
  have hl : lv_has ls 4 [(0, .ref b)] := hl
  -- the component
  refine va_new (ci := 0) (fs := ifs_ (fun _ => 0) LX []) (C := RX0) (T := TX0) (N := 25) hx hb hts in_X0 tyX0 tyX0_ok hown (hts _ q35) (hts _ q36) (hts _ q33) hK hP hD hS hA rfl (dfX _) (Nat.le_of_ble_eq_true rfl) (Nat.le_of_ble_eq_true rfl) dL_law_0 (fun hX H hP hD hS => ?_)
  have hP : va_P (dC, dI) vwCl [(hX, .inr (0, ifs_ (fun _ => 0) LX []))] H := hP
  have hXA : s.heap.size ≤ hX := hD.2 0 _ rfl
  rw [← iw_nil (dd := dd)] at hP
  refine lv_dup hx hb dL_law_3 rfl ?_
  have hFr : ∀ q, q = hX ∨ H.size ≤ q → s.heap.size ≤ q := by
    rintro q (h | h)
    · rw [h]; exact hXA
    · exact Nat.le_trans hS.1 h
  refine va_callv (va_runI (As := []) (rest := [.ref hX]) ⟨hx, hb, hml, hown, hts⟩ (iX_init l (dC, dI) dd hX H.size) (cwI 0 hts (lw_meth q39) rfl rfl rfl (hts _ q33) (hts _ q37) (hts _ q38) rfl (by decide +kernel) ⟨Nat.le_of_ble_eq_true rfl, Nat.le_of_ble_eq_true rfl⟩) ⟨fun a U g mk q => by obtain ⟨q0, q1, qP, qK⟩ := q; exact ⟨q0, q1, qP, va_K.moved (u := U) (U := U.calling g mk a) (Vm.Alike.refl U.vm) qK⟩, fun U hU hW => ⟨rfl, by rw [hU], by rw [hU]; exact hP, va_K.moved hW.alike hK⟩⟩ rfl rfl hl.1 rfl (lv_room (Nat.le_of_ble_eq_true rfl)) dL_law_4 ⟨Nat.le_of_ble_eq_true rfl, Nat.le_of_ble_eq_true rfl⟩) hS (fun q _ h => hFr q h) hFr (fun aX t H1 locs ht hvm _ hB hz1 hk1 hS => ?_)
  obtain ⟨haX, hPX, hDX, -⟩ := hB
  rw [ht] at hPX
  have hDX2 : va_D (fun q : Nat => s.heap.size ≤ q) (wd_ dd aX 0 LX (fun _ _ => 0)) := hDX.weaken (fun k q _ h => hFr q.1 h)
  have sA := Ap_of_D hDX2
  have sC : ∀ q, isA_ LX aX q → s.heap.size ≤ q := by
    intro q hq
    obtain ⟨k, e, hk⟩ := isA_wd (dd := dd) (ci := 0) (fun _ _ => 0) hq
    exact hDX2.2 k _ hk
  refine lv_astore_n (lv' := [(1, .ref hX), (0, .ref b)]) hx hb dL_law_7 rfl hl (by decide) rfl (fun ls hl => ?_)
  -- the model
  refine va_new (ci := 1) (fs := ifs_ (fun _ => 0) LM []) (C := RX1) (T := TX1) (N := 27) hx hb hts in_X1 tyX1 tyX1_ok hown (hts _ q258) (hts _ q259) (hts _ q34) hK hPX hDX2 hS hA rfl (dfM _) (Nat.le_of_ble_eq_true rfl) (Nat.le_of_ble_eq_true rfl) dL_law_8 (fun hM H2 hP2 hD2 hS => ?_)
  have hPX := va_Pl hP2
  have hPM := va_Pr hP2
  rw [← iw_nil (dd := dd)] at hPM
  have hMA : s.heap.size ≤ hM := hD2.2 (wd_ dd aX 0 LX (fun _ _ => 0)).length (hM, .inr (1, ifs_ (fun _ => 0) LM [])) (by rw [List.getElem?_append_right (Nat.le_refl _), Nat.sub_self]; rfl)
  have hne : ∀ q, isA_ LX aX q → q ≠ hM ∧ q < H2.size := by
    intro q hq
    obtain ⟨k, e, hk⟩ := isA_wd (dd := dd) (ci := 0) (fun _ _ => 0) hq
    have hlt := (List.getElem?_eq_some_iff.mp hk).1
    refine ⟨fun he => ?_, (hPX k _ hk).lt⟩
    have := hD2.1 k (wd_ dd aX 0 LX (fun _ _ => 0)).length (q, e) (hM, .inr (1, ifs_ (fun _ => 0) LM [])) (by rw [List.getElem?_append_left hlt]; exact hk) (by rw [List.getElem?_append_right (Nat.le_refl _), Nat.sub_self]; rfl) he
    omega
  refine lv_dup hx hb dL_law_11 rfl ?_
  have hFr2 : ∀ q, q = hM ∨ H2.size ≤ q → s.heap.size ≤ q := by
    rintro q (h | h)
    · rw [h]; exact hMA
    · exact Nat.le_trans hS.1 h
  refine va_callv (va_runI (As := []) (rest := [.ref hM]) ⟨hx, hb, hml, hown, hts⟩ (iM_init l (dC, dI) dd hM H2.size) (cwI 0 hts (lw_meth q262) rfl rfl rfl (hts _ q34) (hts _ q260) (hts _ q261) rfl (by decide +kernel) ⟨Nat.le_of_ble_eq_true rfl, Nat.le_of_ble_eq_true rfl⟩) ⟨fun a U g mk q => by obtain ⟨q0, q1, qP, qK⟩ := q; exact ⟨q0, q1, qP, va_K.moved (u := U) (U := U.calling g mk a) (Vm.Alike.refl U.vm) qK⟩, fun U hU hW => ⟨rfl, by rw [hU], by rw [hU]; exact hPM, va_K.moved hW.alike hK⟩⟩ rfl rfl hl.1 rfl (lv_room (Nat.le_of_ble_eq_true rfl)) dL_law_12 ⟨Nat.le_of_ble_eq_true rfl, Nat.le_of_ble_eq_true rfl⟩) hS (fun q _ h => hFr2 q h) hFr2 (fun aM t H3 locs ht hvm _ hB hz3 hk3 hS => ?_)
  obtain ⟨haM, hPM, hDM, -⟩ := hB
  rw [ht] at hPM
  have hPX : va_P (dC, dI) vwCl (wd_ dd aX 0 LX (fun _ _ => 0)) H3 := hPX.kept (fun k q hk => hk3 q.1 (hPX k q hk).lt (fun h => by
    have := hne q.1 (wd_isA hk)
    rcases h with h | h
    · exact this.1 h
    · omega))
  have hDM2 : va_D (fun q : Nat => s.heap.size ≤ q) (wd_ dd aM 1 LM (fun _ _ => 0)) := hDM.weaken (fun k q _ h => hFr2 q.1 h)
  have hMq : ∀ q, isA_ LM aM q → q = hM ∨ H2.size ≤ q := by
    intro q hq
    obtain ⟨k, e, hk⟩ := isA_wd (dd := dd) (ci := 1) (fun _ _ => 0) hq
    exact hDM.2 k _ hk
  have hSp : Sp_ aX aM s.heap.size := ⟨sA, Ap_of_D hDM2, sC, fun q hq => hFr2 q (hMq q hq), fun q hq hq2 => by
    have h1 := hne q hq
    rcases hMq q hq2 with h | h
    · exact h1.1 h
    · omega⟩
  refine lv_astore_n (lv' := [(2, .ref hM), (1, .ref hX), (0, .ref b)]) hx hb dL_law_15 rfl hl (by decide) rfl (fun ls hl => ?_)
  refine lv_iconst (v := zI 0) hx hb dL_law_16 rfl ?_
  refine lv_istore_n (lv' := [(3, .int (zI 0)), (2, .ref hM), (1, .ref hX), (0, .ref b)]) hx hb dL_law_17 rfl hl (by decide) rfl (fun ls hl => ?_)
  rw [← haX, ← haM] at hl
  refine W.widen (k := 600000) (n := 7290000) (Nat.le_of_ble_eq_true rfl) (Nat.le_of_ble_eq_true rfl) ?_
  exact law_loop hL C0 hK hSp 64 0 (by omega) (by omega) _ _ H3 locs ls Jn_0 ⟨hPX, hPM⟩ hS (lv_sub hl [3, 2, 1, 0] rfl)
set_option maxHeartbeats 4000000 in
theorem lw_walk (l : Launch) (b : Addr) (xs : List Int32) : MetFree l x (headSpec (Jvm.Cond.code x code maxLocals ret :: tables_1) room_1) (lw_P b xs) (fun _ _ _ _ _ => True) lw_Q := by
  refine MetFree.of_bodyS (code := code) (maxLocals := maxLocals) (ret := ret) (by decide) ?_ ?_
  · intro args s m h hn
    obtain ⟨meth, c, h1, h2, h3, h4, h5, h6, -, -⟩ := Cond.code_spec hn (atoms_spec (ws := Jvm.Cond.code x code maxLocals ret :: tables_1) h _ List.mem_cons_self)
    exact ⟨meth, c, h1, h2, h3, h4, h5, h6⟩
  · intro p e s m args below meth c s₁ B hml0 hP _
    obtain ⟨rfl, hx, hbd, hgv⟩ := hP
    obtain ⟨scr, harrAt, hlist, hof, hsmall⟩ := hx
    obtain ⟨hcb, hkn, -, -⟩ := State.arrayAt?_spec harrAt
    have hown : s.vm.findClass R_law = some m.cls := findClass_of_methodNamed B.named
    have hts0 : ∀ c ∈ (Jvm.Cond.code x code maxLocals ret :: tables_1), c.before #[Value.ref b] s = true := atoms_spec (ws := Jvm.Cond.code x code maxLocals ret :: tables_1) B.pre
    have hts : ∀ w ∈ lw_tbl, w.before #[Value.ref b] s = true := k2_hts_sels lw_privs (fun w hw => hts0 w (List.mem_cons_of_mem _ hw)) lw_privs_ok
    have hml : c.maxLocals = 4 := B.maxLocals_eq (hts0 _ List.mem_cons_self)
    have X₀ : Stand p l e room_1 s m #[Value.ref b] below meth c s₁ [] 0 0 := Stand.of_body B
    have hh0 : s₁.heap = s.heap := by rw [B.state]; rfl
    have hsz : scr.slots.size = xs.length := by rw [← Array.length_toList, hlist, List.length_map]
    have hval : ∀ j : Nat, j < xs.length → scr.slots[j]? = some (.int (xs.getD j 0)) := fun j hj => by
      rw [← Array.getElem?_toList, hlist]
      simp [hj]
    have hbl : b < s.heap.size := (Array.getElem?_eq_some_iff.mp hcb).1
    have hX : va_X b xs.length (fun j => xs.getD j 0) s s.heap := ⟨scr, hcb, hof, hkn, hsz, hval⟩
    have K : W p l e room_1 s m #[Value.ref b] below meth c s₁.heap [] 0 0 (lw_Z below #[Value.ref b] s) (entryFrame m ([Value.ref b] : List Value).toArray 4) := by
      rw [hh0]
      exact whole_start l hbd ⟨B.exec, B.bytes, B.returns, hml, hown, hts, hX, hbl, B.notSynchronized, hgv⟩
    obtain ⟨t, a1, o, b1, b2, b3⟩ := K s₁ rfl X₀
    exact ⟨t, o, a1, b1, b2, b3⟩
theorem lw_pre_spec {args : Array Value} {s : State} (h : (Jvm.Cond.and given_1 narrow_1).before args s = true) (hr : rest_1_c.before args s = true) : ∃ (b : Addr) (xs : List Int32), lw_P b xs args s := by
  have hs := flat_of_before _ h
  have hq := flat_of_before _ hr
  have hc : (Cond.count 1).before args s = true := hs _ (by decide +kernel)
  have harr : (Cond.arrayOf (.arg 0) .int).before args s = true := hs _ (by decide +kernel)
  have hle : (Cond.le (.length (.arg 0)) (.int 256)).before args s = true := hs _ (by decide +kernel)
  have hlen : (Cond.isInt (.length (.arg 0))).before args s = true := hq _ (by decide +kernel)
  have hall : (Cond.all (.arg 0) (.isInt (.elem (.arg 0) (.index 0)))).before args s = true := hq _ (by decide +kernel)
  obtain ⟨b, xs, hb, hx⟩ := State.ints_of_pre rfl harr hlen hall
  have hsm : xs.length < 2 ^ 31 := hx.choose_spec.2.2.2
  have hev : (Term.length (.arg 0)).eval args s none [] s = some (.int xs.length.toInt32) := hx.length_eval hb
  have hv := Cond.le_ints hev (show (Term.int 256).eval args s none [] s = some (.int 256) from rfl)
  have hd : xs.length.toInt32 ≤ 256 := by
    simpa [Cond.before, Cond.holds, hv] using hle
  have hN : xs.length ≤ 256 := (Int32.ofNat_le_ofNat hsm (by decide)).mp (show Int32.ofNat xs.length ≤ Int32.ofNat 256 from hd)
  exact ⟨b, xs, Cond.one_arg hc (show args[0]? = some (.ref b) from hb), hx, hN, h⟩
theorem lw_comes (l : Launch) : Comes l x (Jvm.Cond.code x code maxLocals ret :: tables_1) room_1 (fun tb e args s => Calls_1 tb e args s ∧ rest_1 tb e args s ∧ Pre_1 tb e args s)
    (fun _ _ args s o t => lw_Q args s o t) := by
  intro p e ha hc hk s m args below hf hfit hheap happ hpre
  obtain ⟨b, xs, hP⟩ := lw_pre_spec hpre.2.2 hpre.2.1
  obtain ⟨k, o, h1, h2, h3, hQ⟩ := lw_walk l b xs p e ha hc hk s m args below hf ((Spec.applies_iff_loose hf).mp happ).1 hP trivial
  exact ⟨k, o, h1, h2, h3, hQ⟩
theorem lw_frame {s t : State} {o : Outcome} {args : Array Value} (h : Framed s o t [] 600000 7290000) :
    Framed s o t (fieldLocs frame_1_writes args s ++ arrayLocs frame_1_arrays args s ++ staticLocs frame_1_statics s) 600000 7290000 := h
theorem lw_limb (L : Cond) (hL : ∀ (args : Array Value) (s t : State), L.after args s (.returned (some (.int 1))) t = true) :
    ArmFor flags0 classFile x code maxLocals ret World_1 tables_1 room_1 Calls_1 rest_1 Pre_1
      (fun tb e a s o t => postC L tb e a s o t ∧ Framed s o t (fieldLocs frame_1_writes a s ++ arrayLocs frame_1_arrays a s ++ staticLocs frame_1_statics s) 600000 7290000) := by
  intro l _ _ _ p e ha hc hk s m args below hf hfit hheap happ hpre
  obtain ⟨k, o, h1, h2, h3, rfl, hF⟩ := lw_comes l p e ha hc hk s m args below hf hfit hheap happ hpre
  exact ⟨k, _, h1, h2, h3, hL args s _, lw_frame hF⟩
theorem i_vc : Claimed_1_1 ∧ Claimed_1_2 := ⟨lw_limb limb_1_1 (fun args s t => by simp [limb_1_1, Cond.after, Cond.holds, Cond.value]), lw_limb limb_1_2 (fun args s t => Cond.after_iff.mpr (by
  first | (rw [show limb_1_2 = Cond.eq .result (.int 1) from rfl, Cond.eq_ints (x := 1) (y := 1) rfl rfl]; simp; done) | (simp [limb_1_2, Cond.value, Term.eval]; done)))⟩
end
