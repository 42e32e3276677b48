section
-- ===== PART A: goes FIRST, ahead of the names: the tables' words, and 'selects' of the private methods out of them =====
/-- a private method of a class that the tables say can be made, by its rows of tables_1 -/
def lw_okq (q : MethodName × Nat) : Prop := (q.1.cls ≠ "java/lang/invoke/MethodHandle" ∧ q.1.cls ≠ "java/lang/invoke/VarHandle") ∧ Cond.instantiable q.1.cls q.2 ∈ tables_1 ∧ Cond.privateMethod q.1 ∈ tables_1 ∧ Cond.instanceMethod q.1 ∈ tables_1
set_option maxRecDepth 100000
theorem lw_t1 {w : Cond} (h : w ∈ tables_1_1) : w ∈ tables_1 := List.mem_append_left _ h
theorem lw_t2 {w : Cond} (h : w ∈ tables_1_2) : w ∈ tables_1 := List.mem_append_right _ h
theorem lw_p0 : lw_okq (⟨"MeldLog", "put", "(IIIZ)I"⟩, 21) := ⟨⟨by decide +kernel, by decide +kernel⟩, lw_t1 (List.mem_of_getElem? (i := 4) rfl), lw_t1 (List.mem_of_getElem? (i := 88) rfl), lw_t1 (List.mem_of_getElem? (i := 89) rfl)⟩
theorem lw_p1 : lw_okq (⟨"MeldLog", "check", "(III)I"⟩, 21) := ⟨⟨by decide +kernel, by decide +kernel⟩, lw_t1 (List.mem_of_getElem? (i := 4) rfl), lw_t1 (List.mem_of_getElem? (i := 92) rfl), lw_t1 (List.mem_of_getElem? (i := 93) rfl)⟩
theorem lw_p2 : lw_okq (⟨"MeldLog", "placeOf", "(II)I"⟩, 21) := ⟨⟨by decide +kernel, by decide +kernel⟩, lw_t1 (List.mem_of_getElem? (i := 4) rfl), lw_t1 (List.mem_of_getElem? (i := 96) rfl), lw_t1 (List.mem_of_getElem? (i := 97) rfl)⟩
theorem lw_p3 : lw_okq (⟨"MeldLog", "inView", "(II)Z"⟩, 21) := ⟨⟨by decide +kernel, by decide +kernel⟩, lw_t1 (List.mem_of_getElem? (i := 4) rfl), lw_t1 (List.mem_of_getElem? (i := 108) rfl), lw_t1 (List.mem_of_getElem? (i := 109) rfl)⟩
theorem lw_p4 : lw_okq (⟨"MeldLog", "leafOf", "(II)I"⟩, 21) := ⟨⟨by decide +kernel, by decide +kernel⟩, lw_t1 (List.mem_of_getElem? (i := 4) rfl), lw_t1 (List.mem_of_getElem? (i := 112) rfl), lw_t1 (List.mem_of_getElem? (i := 113) rfl)⟩
theorem lw_p5 : lw_okq (⟨"MeldLog", "changedSince", "(III)I"⟩, 21) := ⟨⟨by decide +kernel, by decide +kernel⟩, lw_t1 (List.mem_of_getElem? (i := 4) rfl), lw_t1 (List.mem_of_getElem? (i := 128) rfl), lw_t1 (List.mem_of_getElem? (i := 129) rfl)⟩
theorem lw_p6 : lw_okq (⟨"MeldLog", "push", "(III)V"⟩, 21) := ⟨⟨by decide +kernel, by decide +kernel⟩, lw_t1 (List.mem_of_getElem? (i := 4) rfl), lw_t1 (List.mem_of_getElem? (i := 132) rfl), lw_t1 (List.mem_of_getElem? (i := 133) rfl)⟩
theorem lw_p7 : lw_okq (⟨"MeldLog", "collect", "()V"⟩, 21) := ⟨⟨by decide +kernel, by decide +kernel⟩, lw_t1 (List.mem_of_getElem? (i := 4) rfl), lw_t1 (List.mem_of_getElem? (i := 136) rfl), lw_t1 (List.mem_of_getElem? (i := 137) rfl)⟩
theorem lw_p8 : lw_okq (⟨"MeldLog", "mark", "(I)V"⟩, 21) := ⟨⟨by decide +kernel, by decide +kernel⟩, lw_t1 (List.mem_of_getElem? (i := 4) rfl), lw_t1 (List.mem_of_getElem? (i := 140) rfl), lw_t1 (List.mem_of_getElem? (i := 141) rfl)⟩
theorem lw_p9 : lw_okq (⟨"MeldLog", "written", "(II)I"⟩, 21) := ⟨⟨by decide +kernel, by decide +kernel⟩, lw_t1 (List.mem_of_getElem? (i := 4) rfl), lw_t1 (List.mem_of_getElem? (i := 144) rfl), lw_t1 (List.mem_of_getElem? (i := 145) rfl)⟩
theorem lw_p10 : lw_okq (⟨"MeldLog", "newNode", "()I"⟩, 21) := ⟨⟨by decide +kernel, by decide +kernel⟩, lw_t1 (List.mem_of_getElem? (i := 4) rfl), lw_t1 (List.mem_of_getElem? (i := 148) rfl), lw_t1 (List.mem_of_getElem? (i := 149) rfl)⟩
theorem lw_p11 : lw_okq (⟨"MeldLog", "isKept", "(I)Z"⟩, 21) := ⟨⟨by decide +kernel, by decide +kernel⟩, lw_t1 (List.mem_of_getElem? (i := 4) rfl), lw_t1 (List.mem_of_getElem? (i := 164) rfl), lw_t1 (List.mem_of_getElem? (i := 165) rfl)⟩
theorem lw_p12 : lw_okq (⟨"MeldLogModel", "isTransaction", "(I)Z"⟩, 10) := ⟨⟨by decide +kernel, by decide +kernel⟩, lw_t1 (List.mem_of_getElem? (i := 181) rfl), lw_t1 (List.mem_of_getElem? (i := 222) rfl), lw_t1 (List.mem_of_getElem? (i := 223) rfl)⟩
theorem lw_p13 : lw_okq (⟨"MeldLogModel", "give", "(IIZI)I"⟩, 10) := ⟨⟨by decide +kernel, by decide +kernel⟩, lw_t1 (List.mem_of_getElem? (i := 181) rfl), lw_t1 (List.mem_of_getElem? (i := 230) rfl), lw_t1 (List.mem_of_getElem? (i := 231) rfl)⟩
theorem lw_p14 : lw_okq (⟨"MeldLogModel", "isKey", "(I)Z"⟩, 10) := ⟨⟨by decide +kernel, by decide +kernel⟩, lw_t1 (List.mem_of_getElem? (i := 181) rfl), lw_t1 (List.mem_of_getElem? (i := 234) rfl), lw_t1 (List.mem_of_getElem? (i := 235) rfl)⟩
theorem lw_p15 : lw_okq (⟨"MeldLogModel", "sizeOf", "(I)I"⟩, 10) := ⟨⟨by decide +kernel, by decide +kernel⟩, lw_t1 (List.mem_of_getElem? (i := 181) rfl), lw_t1 (List.mem_of_getElem? (i := 238) rfl), lw_t1 (List.mem_of_getElem? (i := 239) rfl)⟩
def lw_privs_1 : List (MethodName × Nat) := [(⟨"MeldLog", "put", "(IIIZ)I"⟩, 21), (⟨"MeldLog", "check", "(III)I"⟩, 21), (⟨"MeldLog", "placeOf", "(II)I"⟩, 21), (⟨"MeldLog", "inView", "(II)Z"⟩, 21), (⟨"MeldLog", "leafOf", "(II)I"⟩, 21), (⟨"MeldLog", "changedSince", "(III)I"⟩, 21), (⟨"MeldLog", "push", "(III)V"⟩, 21), (⟨"MeldLog", "collect", "()V"⟩, 21), (⟨"MeldLog", "mark", "(I)V"⟩, 21), (⟨"MeldLog", "written", "(II)I"⟩, 21), (⟨"MeldLog", "newNode", "()I"⟩, 21), (⟨"MeldLog", "isKept", "(I)Z"⟩, 21), (⟨"MeldLogModel", "isTransaction", "(I)Z"⟩, 10), (⟨"MeldLogModel", "give", "(IIZI)I"⟩, 10), (⟨"MeldLogModel", "isKey", "(I)Z"⟩, 10), (⟨"MeldLogModel", "sizeOf", "(I)I"⟩, 10)]
theorem lw_r1 : ∀ q ∈ lw_privs_1, lw_okq q := List.forall_mem_cons.mpr ⟨lw_p0, List.forall_mem_cons.mpr ⟨lw_p1, List.forall_mem_cons.mpr ⟨lw_p2, List.forall_mem_cons.mpr ⟨lw_p3, List.forall_mem_cons.mpr ⟨lw_p4, List.forall_mem_cons.mpr ⟨lw_p5, List.forall_mem_cons.mpr ⟨lw_p6, List.forall_mem_cons.mpr ⟨lw_p7, List.forall_mem_cons.mpr ⟨lw_p8, List.forall_mem_cons.mpr ⟨lw_p9, List.forall_mem_cons.mpr ⟨lw_p10, List.forall_mem_cons.mpr ⟨lw_p11, List.forall_mem_cons.mpr ⟨lw_p12, List.forall_mem_cons.mpr ⟨lw_p13, List.forall_mem_cons.mpr ⟨lw_p14, List.forall_mem_cons.mpr ⟨lw_p15, fun _ h => absurd h List.not_mem_nil⟩⟩⟩⟩⟩⟩⟩⟩⟩⟩⟩⟩⟩⟩⟩⟩
theorem lw_p16 : lw_okq (⟨"MeldLogModel", "in", "(II)Z"⟩, 10) := ⟨⟨by decide +kernel, by decide +kernel⟩, lw_t1 (List.mem_of_getElem? (i := 181) rfl), lw_t2 (List.mem_of_getElem? (i := 2) rfl), lw_t2 (List.mem_of_getElem? (i := 3) rfl)⟩
theorem lw_p17 : lw_okq (⟨"MeldLogModel", "isKept", "(I)Z"⟩, 10) := ⟨⟨by decide +kernel, by decide +kernel⟩, lw_t1 (List.mem_of_getElem? (i := 181) rfl), lw_t2 (List.mem_of_getElem? (i := 39) rfl), lw_t2 (List.mem_of_getElem? (i := 40) rfl)⟩
theorem lw_p18 : lw_okq (⟨"MeldLogModel", "exists", "(I)Z"⟩, 10) := ⟨⟨by decide +kernel, by decide +kernel⟩, lw_t1 (List.mem_of_getElem? (i := 181) rfl), lw_t2 (List.mem_of_getElem? (i := 43) rfl), lw_t2 (List.mem_of_getElem? (i := 44) rfl)⟩
def lw_privs_2 : List (MethodName × Nat) := [(⟨"MeldLogModel", "in", "(II)Z"⟩, 10), (⟨"MeldLogModel", "isKept", "(I)Z"⟩, 10), (⟨"MeldLogModel", "exists", "(I)Z"⟩, 10)]
theorem lw_r2 : ∀ q ∈ lw_privs_2, lw_okq q := List.forall_mem_cons.mpr ⟨lw_p16, List.forall_mem_cons.mpr ⟨lw_p17, List.forall_mem_cons.mpr ⟨lw_p18, fun _ h => absurd h List.not_mem_nil⟩⟩⟩
def lw_privs : List (MethodName × Nat) := lw_privs_1 ++ (lw_privs_2)
def lw_tbl : List Cond := k2_sels lw_privs ++ tables_1
theorem lw_privs_ok : ∀ q ∈ lw_privs, lw_okq q := by
  show ∀ q ∈ lw_privs_1 ++ (lw_privs_2), lw_okq q
  exact List.forall_mem_append.mpr ⟨lw_r1, lw_r2⟩
-- ===== ONE list of words for every method: the tables' words that hold all through a run =====
def lw_all : List Cond := lw_tbl.filter goodWord
/-- a word of the tables by its place: claim/WORDS.tsv -/
theorem lw_w {w : Cond} (i : Nat) (h : lw_tbl[i]? = some w) (g : goodWord w = true) : w ∈ lw_all := List.mem_filter.mpr ⟨List.mem_of_getElem? h, g⟩
theorem lw_all_tbl {w : Cond} (h : w ∈ lw_all) : w ∈ lw_tbl := (List.mem_filter.mp h).1
theorem lw_self : GoodIn lw_all lw_all := fun w h => ⟨h, good_of_word (List.mem_filter.mp h).2⟩
/-- a class's field words, by their places -/
theorem lw_in (ws : List Cond) (ps : List Nat) (hp : ws = ps.filterMap (fun i => lw_tbl[i]?)) (hg : ws.all goodWord = true) : ∀ w ∈ ws, w ∈ lw_all := by
  intro w h
  have h1 := List.all_eq_true.mp hg w h
  rw [hp] at h
  obtain ⟨i, -, hi⟩ := List.mem_filterMap.mp h
  exact lw_w i hi h1
/-- the words of a contract for the method y with code b, L locals, answer r -/
abbrev ws_ (y : MethodName) (b : ByteArray) (L : Nat) (r : Option FieldType) : List Cond := Cond.code y b L r :: lw_all
theorem lw_meth {y : MethodName} {b : ByteArray} {L : Nat} {r : Option FieldType} (h : Cond.code y b L r ∈ lw_all) : GoodIn lw_all (ws_ y b L r) := by
  intro w hw
  rcases List.mem_cons.mp hw with e | e
  · rw [e]
    exact lw_self _ h
  · exact lw_self _ e
theorem lw_app {a c : List Cond} (ha : ∀ w ∈ a, w ∈ lw_all) (hc : GoodIn lw_all c) : GoodIn lw_all (a ++ c) := by
  intro w hw
  rcases List.mem_append.mp hw with e | e
  · exact lw_self w (ha w e)
  · exact hc w e
/-- what a call through an object asks: cwV n hts (lw_V ..) -/
theorem lw_V {own : String} {idx : Nat} {C : String} {y : MethodName} {b : ByteArray} {L : Nat} {r : Option FieldType} (h1 : Cond.methodLink own idx y ∈ lw_all) (h2 : Cond.instanceMethod y ∈ lw_all) (h3 : Cond.selects C y y ∈ lw_all) (h4 : Cond.initialized C ∈ lw_all) (h5 : Cond.code y b L r ∈ lw_all) : GoodIn lw_all (wsV own idx C y (ws_ y b L r)) := by
  refine lw_app ?_ (lw_meth h5)
  intro w hw
  simp only [List.mem_cons, List.not_mem_nil, or_false] at hw
  rcases hw with e | e | e | e
  · rw [e]; exact h1
  · rw [e]; exact h2
  · rw [e]; exact h3
  · rw [e]; exact h4
/-- what a static call asks: va_cwS n hts (lw_S ..) -/
theorem lw_S {own : String} {idx : Nat} {y : MethodName} {b : ByteArray} {L : Nat} {r : Option FieldType} (h1 : Cond.methodLink own idx y ∈ lw_all) (h2 : Cond.static y ∈ lw_all) (h3 : Cond.initialized y.cls ∈ lw_all) (h4 : Cond.code y b L r ∈ lw_all) : GoodIn lw_all (va_wsS own idx y (ws_ y b L r)) := by
  refine lw_app ?_ (lw_meth h4)
  intro w hw
  simp only [List.mem_cons, List.not_mem_nil, or_false] at hw
  rcases hw with e | e | e
  · rw [e]; exact h1
  · rw [e]; exact h2
  · rw [e]; exact h3
/-- the words of a contract for a method WITH HANDLERS (hh: its table) -/
abbrev wsW_ (y : MethodName) (b : ByteArray) (L : Nat) (r : Option FieldType) (hh : List (Nat × Nat × Nat × Nat)) : List Cond := Cond.codeWith y b L r hh :: lw_all
theorem lw_methW {y : MethodName} {b : ByteArray} {L : Nat} {r : Option FieldType} {hh : List (Nat × Nat × Nat × Nat)} (h : Cond.codeWith y b L r hh ∈ lw_all) : GoodIn lw_all (wsW_ y b L r hh) := by
  intro w hw
  rcases List.mem_cons.mp hw with e | e
  · rw [e]
    exact lw_self _ h
  · exact lw_self _ e
/-- any list of words by their places (lw_in), good -/
theorem lw_good {ws : List Cond} (h : ∀ w ∈ ws, w ∈ lw_all) : GoodIn lw_all ws := fun w hw => lw_self w (h w hw)
/-- what a call of a method with handlers asks: vx_cwVW n hts (lw_VW ..), vx_cwSW n hts (lw_SW ..) -/
theorem lw_VW {own : String} {idx : Nat} {C : String} {y : MethodName} {b : ByteArray} {L : Nat} {r : Option FieldType} {hh : List (Nat × Nat × Nat × Nat)} (h1 : Cond.methodLink own idx y ∈ lw_all) (h2 : Cond.instanceMethod y ∈ lw_all) (h3 : Cond.selects C y y ∈ lw_all) (h4 : Cond.initialized C ∈ lw_all) (h5 : Cond.codeWith y b L r hh ∈ lw_all) : GoodIn lw_all (wsV own idx C y (wsW_ y b L r hh)) := by
  refine lw_app ?_ (lw_methW h5)
  intro w hw
  simp only [List.mem_cons, List.not_mem_nil, or_false] at hw
  rcases hw with e | e | e | e
  · rw [e]; exact h1
  · rw [e]; exact h2
  · rw [e]; exact h3
  · rw [e]; exact h4
theorem lw_SW {own : String} {idx : Nat} {y : MethodName} {b : ByteArray} {L : Nat} {r : Option FieldType} {hh : List (Nat × Nat × Nat × Nat)} (h1 : Cond.methodLink own idx y ∈ lw_all) (h2 : Cond.static y ∈ lw_all) (h3 : Cond.initialized y.cls ∈ lw_all) (h4 : Cond.codeWith y b L r hh ∈ lw_all) : GoodIn lw_all (va_wsS own idx y (wsW_ y b L r hh)) := by
  refine lw_app ?_ (lw_methW h4)
  intro w hw
  simp only [List.mem_cons, List.not_mem_nil, or_false] at hw
  rcases hw with e | e | e
  · rw [e]; exact h1
  · rw [e]; exact h2
  · rw [e]; exact h3
/-- a word by its place in its run of the tables -/
theorem lw_at {r : List Cond} (hr : ∀ w ∈ r, w ∈ lw_tbl) {w : Cond} (i : Nat) (h : r[i]? = some w) : w ∈ lw_tbl := hr w (List.mem_of_getElem? h)
theorem lw_g {w : Cond} (h : w ∈ lw_tbl) (g : goodWord w = true) : w ∈ lw_all := List.mem_filter.mpr ⟨h, g⟩
theorem lw_ms : ∀ w ∈ k2_sels lw_privs, w ∈ lw_tbl := fun w h => show w ∈ k2_sels lw_privs ++ tables_1 from List.mem_append_left _ h
theorem lw_m1 : ∀ w ∈ tables_1_1, w ∈ lw_tbl := fun w h => show w ∈ k2_sels lw_privs ++ tables_1 from List.mem_append_right (k2_sels lw_privs) (show w ∈ tables_1 from List.mem_append_left _ h)
theorem lw_m2 : ∀ w ∈ tables_1_2, w ∈ lw_tbl := fun w h => show w ∈ k2_sels lw_privs ++ tables_1 from List.mem_append_right (k2_sels lw_privs) (show w ∈ tables_1 from List.mem_append_right _ h)
theorem qs0 : (Cond.selects "MeldLog" ⟨"MeldLog", "put", "(IIIZ)I"⟩ ⟨"MeldLog", "put", "(IIIZ)I"⟩) ∈ lw_all := lw_g (lw_at lw_ms 0 rfl) rfl
theorem qs1 : (Cond.selects "MeldLog" ⟨"MeldLog", "check", "(III)I"⟩ ⟨"MeldLog", "check", "(III)I"⟩) ∈ lw_all := lw_g (lw_at lw_ms 1 rfl) rfl
theorem qs2 : (Cond.selects "MeldLog" ⟨"MeldLog", "placeOf", "(II)I"⟩ ⟨"MeldLog", "placeOf", "(II)I"⟩) ∈ lw_all := lw_g (lw_at lw_ms 2 rfl) rfl
theorem qs3 : (Cond.selects "MeldLog" ⟨"MeldLog", "inView", "(II)Z"⟩ ⟨"MeldLog", "inView", "(II)Z"⟩) ∈ lw_all := lw_g (lw_at lw_ms 3 rfl) rfl
theorem qs4 : (Cond.selects "MeldLog" ⟨"MeldLog", "leafOf", "(II)I"⟩ ⟨"MeldLog", "leafOf", "(II)I"⟩) ∈ lw_all := lw_g (lw_at lw_ms 4 rfl) rfl
theorem qs5 : (Cond.selects "MeldLog" ⟨"MeldLog", "changedSince", "(III)I"⟩ ⟨"MeldLog", "changedSince", "(III)I"⟩) ∈ lw_all := lw_g (lw_at lw_ms 5 rfl) rfl
theorem qs6 : (Cond.selects "MeldLog" ⟨"MeldLog", "push", "(III)V"⟩ ⟨"MeldLog", "push", "(III)V"⟩) ∈ lw_all := lw_g (lw_at lw_ms 6 rfl) rfl
theorem qs7 : (Cond.selects "MeldLog" ⟨"MeldLog", "collect", "()V"⟩ ⟨"MeldLog", "collect", "()V"⟩) ∈ lw_all := lw_g (lw_at lw_ms 7 rfl) rfl
theorem qs8 : (Cond.selects "MeldLog" ⟨"MeldLog", "mark", "(I)V"⟩ ⟨"MeldLog", "mark", "(I)V"⟩) ∈ lw_all := lw_g (lw_at lw_ms 8 rfl) rfl
theorem qs9 : (Cond.selects "MeldLog" ⟨"MeldLog", "written", "(II)I"⟩ ⟨"MeldLog", "written", "(II)I"⟩) ∈ lw_all := lw_g (lw_at lw_ms 9 rfl) rfl
theorem qs10 : (Cond.selects "MeldLog" ⟨"MeldLog", "newNode", "()I"⟩ ⟨"MeldLog", "newNode", "()I"⟩) ∈ lw_all := lw_g (lw_at lw_ms 10 rfl) rfl
theorem qs11 : (Cond.selects "MeldLog" ⟨"MeldLog", "isKept", "(I)Z"⟩ ⟨"MeldLog", "isKept", "(I)Z"⟩) ∈ lw_all := lw_g (lw_at lw_ms 11 rfl) rfl
theorem qs12 : (Cond.selects "MeldLogModel" ⟨"MeldLogModel", "isTransaction", "(I)Z"⟩ ⟨"MeldLogModel", "isTransaction", "(I)Z"⟩) ∈ lw_all := lw_g (lw_at lw_ms 12 rfl) rfl
theorem qs13 : (Cond.selects "MeldLogModel" ⟨"MeldLogModel", "give", "(IIZI)I"⟩ ⟨"MeldLogModel", "give", "(IIZI)I"⟩) ∈ lw_all := lw_g (lw_at lw_ms 13 rfl) rfl
theorem qs14 : (Cond.selects "MeldLogModel" ⟨"MeldLogModel", "isKey", "(I)Z"⟩ ⟨"MeldLogModel", "isKey", "(I)Z"⟩) ∈ lw_all := lw_g (lw_at lw_ms 14 rfl) rfl
theorem qs15 : (Cond.selects "MeldLogModel" ⟨"MeldLogModel", "sizeOf", "(I)I"⟩ ⟨"MeldLogModel", "sizeOf", "(I)I"⟩) ∈ lw_all := lw_g (lw_at lw_ms 15 rfl) rfl
theorem qs16 : (Cond.selects "MeldLogModel" ⟨"MeldLogModel", "in", "(II)Z"⟩ ⟨"MeldLogModel", "in", "(II)Z"⟩) ∈ lw_all := lw_g (lw_at lw_ms 16 rfl) rfl
theorem qs17 : (Cond.selects "MeldLogModel" ⟨"MeldLogModel", "isKept", "(I)Z"⟩ ⟨"MeldLogModel", "isKept", "(I)Z"⟩) ∈ lw_all := lw_g (lw_at lw_ms 17 rfl) rfl
theorem qs18 : (Cond.selects "MeldLogModel" ⟨"MeldLogModel", "exists", "(I)Z"⟩ ⟨"MeldLogModel", "exists", "(I)Z"⟩) ∈ lw_all := lw_g (lw_at lw_ms 18 rfl) rfl
end
section
set_option maxRecDepth 100000
/-! MeldLog -/
def RX0 : String := "MeldLog"
def TX0 : u_T := fun k => match k with
  | 0 => ("MeldLog", "child", "[S", true)
  | 1 => ("MeldLog", "leafValue", "[I", true)
  | 2 => ("MeldLog", "hasValue", "[Z", true)
  | 3 => ("MeldLog", "stamp", "[I", true)
  | 4 => ("MeldLog", "marked", "[Z", true)
  | 5 => ("MeldLog", "freeCount", "I", false)
  | 6 => ("MeldLog", "freeNodes", "[S", true)
  | 7 => ("MeldLog", "latestState", "I", false)
  | 8 => ("MeldLog", "rootOf", "[S", true)
  | 9 => ("MeldLog", "open", "[Z", true)
  | 10 => ("MeldLog", "base", "[I", true)
  | 11 => ("MeldLog", "baseRoot", "[S", true)
  | 12 => ("MeldLog", "readSet", "[I", true)
  | 13 => ("MeldLog", "writeCount", "[B", true)
  | 14 => ("MeldLog", "writeKey", "[B", true)
  | 15 => ("MeldLog", "writeValue", "[I", true)
  | 16 => ("MeldLog", "writeHas", "[Z", true)
  | 17 => ("MeldLog", "stackNode", "[S", true)
  | 18 => ("MeldLog", "stackKey", "[B", true)
  | 19 => ("MeldLog", "stackSize", "[B", true)
  | _ => ("MeldLog", "stackTop", "I", false)
def tyX0 : Nat → FieldType := fun k => match k with
  | 0 => .array .short
  | 1 => .array .int
  | 2 => .array .boolean
  | 3 => .array .int
  | 4 => .array .boolean
  | 5 => .int
  | 6 => .array .short
  | 7 => .int
  | 8 => .array .short
  | 9 => .array .boolean
  | 10 => .array .int
  | 11 => .array .short
  | 12 => .array .int
  | 13 => .array .byte
  | 14 => .array .byte
  | 15 => .array .int
  | 16 => .array .boolean
  | 17 => .array .short
  | 18 => .array .byte
  | 19 => .array .byte
  | _ => .int
abbrev wsX00 : List Cond := u_ws RX0 TX0 21
set_option maxRecDepth 100000 in
theorem nmX0 : ∀ a, a < 21 → ∀ b, b < 21 → a ≠ b → (TX0 a).2.1 ≠ (TX0 b).2.1 := by decide +kernel
set_option maxRecDepth 100000 in
theorem tyX0_ok : ∀ k, k < 21 → parseFieldDescriptor (TX0 k).2.2.1 = some (tyX0 k) := by decide +kernel
abbrev cX0_init : ByteArray := prog_1_method_1_code
def yX0_init : MethodName := ⟨RX0, "<init>", "()V"⟩
abbrev cX0_begin : ByteArray := prog_1_method_2_code
def yX0_begin : MethodName := ⟨RX0, "begin", "(I)I"⟩
abbrev cX0_write : ByteArray := prog_1_method_3_code
def yX0_write : MethodName := ⟨RX0, "write", "(III)I"⟩
abbrev cX0_put : ByteArray := prog_1_method_5_code
def yX0_put : MethodName := ⟨RX0, "put", "(IIIZ)I"⟩
abbrev cX0_check : ByteArray := prog_1_method_6_code
def yX0_check : MethodName := ⟨RX0, "check", "(III)I"⟩
abbrev cX0_placeOf : ByteArray := prog_1_method_7_code
def yX0_placeOf : MethodName := ⟨RX0, "placeOf", "(II)I"⟩
abbrev cX0_erase : ByteArray := prog_1_method_4_code
def yX0_erase : MethodName := ⟨RX0, "erase", "(II)I"⟩
abbrev cX0_read : ByteArray := prog_1_method_8_code
def yX0_read : MethodName := ⟨RX0, "read", "(II)I"⟩
abbrev cX0_inView : ByteArray := prog_1_method_11_code
def yX0_inView : MethodName := ⟨RX0, "inView", "(II)Z"⟩
abbrev cX0_leafOf : ByteArray := prog_1_method_20_code
def yX0_leafOf : MethodName := ⟨RX0, "leafOf", "(II)I"⟩
abbrev cX0_peek : ByteArray := prog_1_method_9_code
def yX0_peek : MethodName := ⟨RX0, "peek", "(II)I"⟩
abbrev cX0_countRange : ByteArray := prog_1_method_10_code
def yX0_countRange : MethodName := ⟨RX0, "countRange", "(III)I"⟩
abbrev cX0_commit : ByteArray := prog_1_method_12_code
def yX0_commit : MethodName := ⟨RX0, "commit", "(I)I"⟩
abbrev cX0_changedSince : ByteArray := prog_1_method_22_code
def yX0_changedSince : MethodName := ⟨RX0, "changedSince", "(III)I"⟩
abbrev cX0_push : ByteArray := prog_1_method_21_code
def yX0_push : MethodName := ⟨RX0, "push", "(III)V"⟩
abbrev cX0_collect : ByteArray := prog_1_method_26_code
def yX0_collect : MethodName := ⟨RX0, "collect", "()V"⟩
abbrev cX0_mark : ByteArray := prog_1_method_25_code
def yX0_mark : MethodName := ⟨RX0, "mark", "(I)V"⟩
abbrev cX0_written : ByteArray := prog_1_method_24_code
def yX0_written : MethodName := ⟨RX0, "written", "(II)I"⟩
abbrev cX0_newNode : ByteArray := prog_1_method_23_code
def yX0_newNode : MethodName := ⟨RX0, "newNode", "()I"⟩
abbrev cX0_abort : ByteArray := prog_1_method_13_code
def yX0_abort : MethodName := ⟨RX0, "abort", "(I)I"⟩
abbrev cX0_latest : ByteArray := prog_1_method_14_code
def yX0_latest : MethodName := ⟨RX0, "latest", "()I"⟩
abbrev cX0_has : ByteArray := prog_1_method_16_code
def yX0_has : MethodName := ⟨RX0, "has", "(II)Z"⟩
abbrev cX0_isKept : ByteArray := prog_1_method_15_code
def yX0_isKept : MethodName := ⟨RX0, "isKept", "(I)Z"⟩
abbrev cX0_at : ByteArray := prog_1_method_17_code
def yX0_at : MethodName := ⟨RX0, "at", "(II)I"⟩
abbrev cX0_size : ByteArray := prog_1_method_18_code
def yX0_size : MethodName := ⟨RX0, "size", "(I)I"⟩
abbrev cX0_changed : ByteArray := prog_1_method_19_code
def yX0_changed : MethodName := ⟨RX0, "changed", "(II)I"⟩
theorem q20 : (Jvm.Cond.initialized "MeldLog") ∈ lw_all := lw_g (lw_at lw_m1 1 rfl) rfl
theorem q23 : (Jvm.Cond.instantiable "MeldLog" (21 : Nat)) ∈ lw_all := lw_g (lw_at lw_m1 4 rfl) rfl
theorem q25 : (Jvm.Cond.instanceMethod ({ cls := "MeldLog", name := "<init>", desc := "()V" } : Jvm.MethodName)) ∈ lw_all := lw_g (lw_at lw_m1 6 rfl) rfl
theorem q26 : (Jvm.Cond.code ({ cls := "MeldLog", name := "<init>", desc := "()V" } : Jvm.MethodName) prog_1_method_1_code (2 : Nat) (Option.none : Option Jvm.ClassFile.FieldType)) ∈ lw_all := lw_g (lw_at lw_m1 7 rfl) rfl
theorem q27 : (Jvm.Cond.methodLink "MeldLog" (1 : Nat) ({ cls := "java/lang/Object", name := "<init>", desc := "()V" } : Jvm.MethodName)) ∈ lw_all := lw_g (lw_at lw_m1 8 rfl) rfl
theorem q30 : (Jvm.Cond.fieldLink "MeldLog" (7 : Nat) "MeldLog" "child" "[S") ∈ lw_all := lw_g (lw_at lw_m1 11 rfl) rfl
theorem q31 : (Jvm.Cond.fieldLink "MeldLog" (13 : Nat) "MeldLog" "leafValue" "[I") ∈ lw_all := lw_g (lw_at lw_m1 12 rfl) rfl
theorem q32 : (Jvm.Cond.fieldLink "MeldLog" (17 : Nat) "MeldLog" "hasValue" "[Z") ∈ lw_all := lw_g (lw_at lw_m1 13 rfl) rfl
theorem q33 : (Jvm.Cond.fieldLink "MeldLog" (21 : Nat) "MeldLog" "stamp" "[I") ∈ lw_all := lw_g (lw_at lw_m1 14 rfl) rfl
theorem q34 : (Jvm.Cond.fieldLink "MeldLog" (24 : Nat) "MeldLog" "marked" "[Z") ∈ lw_all := lw_g (lw_at lw_m1 15 rfl) rfl
theorem q35 : (Jvm.Cond.fieldLink "MeldLog" (67 : Nat) "MeldLog" "freeCount" "I") ∈ lw_all := lw_g (lw_at lw_m1 16 rfl) rfl
theorem q36 : (Jvm.Cond.fieldLink "MeldLog" (27 : Nat) "MeldLog" "freeNodes" "[S") ∈ lw_all := lw_g (lw_at lw_m1 17 rfl) rfl
theorem q37 : (Jvm.Cond.fieldLink "MeldLog" (71 : Nat) "MeldLog" "latestState" "I") ∈ lw_all := lw_g (lw_at lw_m1 18 rfl) rfl
theorem q38 : (Jvm.Cond.fieldLink "MeldLog" (30 : Nat) "MeldLog" "rootOf" "[S") ∈ lw_all := lw_g (lw_at lw_m1 19 rfl) rfl
theorem q39 : (Jvm.Cond.fieldLink "MeldLog" (33 : Nat) "MeldLog" "open" "[Z") ∈ lw_all := lw_g (lw_at lw_m1 20 rfl) rfl
theorem q40 : (Jvm.Cond.fieldLink "MeldLog" (36 : Nat) "MeldLog" "base" "[I") ∈ lw_all := lw_g (lw_at lw_m1 21 rfl) rfl
theorem q41 : (Jvm.Cond.fieldLink "MeldLog" (39 : Nat) "MeldLog" "baseRoot" "[S") ∈ lw_all := lw_g (lw_at lw_m1 22 rfl) rfl
theorem q42 : (Jvm.Cond.fieldLink "MeldLog" (42 : Nat) "MeldLog" "readSet" "[I") ∈ lw_all := lw_g (lw_at lw_m1 23 rfl) rfl
theorem q43 : (Jvm.Cond.fieldLink "MeldLog" (45 : Nat) "MeldLog" "writeCount" "[B") ∈ lw_all := lw_g (lw_at lw_m1 24 rfl) rfl
theorem q44 : (Jvm.Cond.fieldLink "MeldLog" (49 : Nat) "MeldLog" "writeKey" "[B") ∈ lw_all := lw_g (lw_at lw_m1 25 rfl) rfl
theorem q45 : (Jvm.Cond.fieldLink "MeldLog" (52 : Nat) "MeldLog" "writeValue" "[I") ∈ lw_all := lw_g (lw_at lw_m1 26 rfl) rfl
theorem q46 : (Jvm.Cond.fieldLink "MeldLog" (55 : Nat) "MeldLog" "writeHas" "[Z") ∈ lw_all := lw_g (lw_at lw_m1 27 rfl) rfl
theorem q47 : (Jvm.Cond.fieldLink "MeldLog" (58 : Nat) "MeldLog" "stackNode" "[S") ∈ lw_all := lw_g (lw_at lw_m1 28 rfl) rfl
theorem q48 : (Jvm.Cond.fieldLink "MeldLog" (61 : Nat) "MeldLog" "stackKey" "[B") ∈ lw_all := lw_g (lw_at lw_m1 29 rfl) rfl
theorem q49 : (Jvm.Cond.fieldLink "MeldLog" (64 : Nat) "MeldLog" "stackSize" "[B") ∈ lw_all := lw_g (lw_at lw_m1 30 rfl) rfl
theorem q50 : (Jvm.Cond.fieldLink "MeldLog" (109 : Nat) "MeldLog" "stackTop" "I") ∈ lw_all := lw_g (lw_at lw_m1 31 rfl) rfl
theorem q51 : (Jvm.Cond.laysFinal "MeldLog" "MeldLog" "child" "[S") ∈ lw_all := lw_g (lw_at lw_m1 32 rfl) rfl
theorem q52 : (Jvm.Cond.soleField "MeldLog" "child") ∈ lw_all := lw_g (lw_at lw_m1 33 rfl) rfl
theorem q53 : (Jvm.Cond.laysFinal "MeldLog" "MeldLog" "leafValue" "[I") ∈ lw_all := lw_g (lw_at lw_m1 34 rfl) rfl
theorem q54 : (Jvm.Cond.soleField "MeldLog" "leafValue") ∈ lw_all := lw_g (lw_at lw_m1 35 rfl) rfl
theorem q55 : (Jvm.Cond.laysFinal "MeldLog" "MeldLog" "hasValue" "[Z") ∈ lw_all := lw_g (lw_at lw_m1 36 rfl) rfl
theorem q56 : (Jvm.Cond.soleField "MeldLog" "hasValue") ∈ lw_all := lw_g (lw_at lw_m1 37 rfl) rfl
theorem q57 : (Jvm.Cond.laysFinal "MeldLog" "MeldLog" "stamp" "[I") ∈ lw_all := lw_g (lw_at lw_m1 38 rfl) rfl
theorem q58 : (Jvm.Cond.soleField "MeldLog" "stamp") ∈ lw_all := lw_g (lw_at lw_m1 39 rfl) rfl
theorem q59 : (Jvm.Cond.laysFinal "MeldLog" "MeldLog" "marked" "[Z") ∈ lw_all := lw_g (lw_at lw_m1 40 rfl) rfl
theorem q60 : (Jvm.Cond.soleField "MeldLog" "marked") ∈ lw_all := lw_g (lw_at lw_m1 41 rfl) rfl
theorem q61 : (Jvm.Cond.lays "MeldLog" "MeldLog" "freeCount" "I") ∈ lw_all := lw_g (lw_at lw_m1 42 rfl) rfl
theorem q62 : (Jvm.Cond.soleField "MeldLog" "freeCount") ∈ lw_all := lw_g (lw_at lw_m1 43 rfl) rfl
theorem q63 : (Jvm.Cond.laysFinal "MeldLog" "MeldLog" "freeNodes" "[S") ∈ lw_all := lw_g (lw_at lw_m1 44 rfl) rfl
theorem q64 : (Jvm.Cond.soleField "MeldLog" "freeNodes") ∈ lw_all := lw_g (lw_at lw_m1 45 rfl) rfl
theorem q65 : (Jvm.Cond.lays "MeldLog" "MeldLog" "latestState" "I") ∈ lw_all := lw_g (lw_at lw_m1 46 rfl) rfl
theorem q66 : (Jvm.Cond.soleField "MeldLog" "latestState") ∈ lw_all := lw_g (lw_at lw_m1 47 rfl) rfl
theorem q67 : (Jvm.Cond.laysFinal "MeldLog" "MeldLog" "rootOf" "[S") ∈ lw_all := lw_g (lw_at lw_m1 48 rfl) rfl
theorem q68 : (Jvm.Cond.soleField "MeldLog" "rootOf") ∈ lw_all := lw_g (lw_at lw_m1 49 rfl) rfl
theorem q69 : (Jvm.Cond.laysFinal "MeldLog" "MeldLog" "open" "[Z") ∈ lw_all := lw_g (lw_at lw_m1 50 rfl) rfl
theorem q70 : (Jvm.Cond.soleField "MeldLog" "open") ∈ lw_all := lw_g (lw_at lw_m1 51 rfl) rfl
theorem q71 : (Jvm.Cond.laysFinal "MeldLog" "MeldLog" "base" "[I") ∈ lw_all := lw_g (lw_at lw_m1 52 rfl) rfl
theorem q72 : (Jvm.Cond.soleField "MeldLog" "base") ∈ lw_all := lw_g (lw_at lw_m1 53 rfl) rfl
theorem q73 : (Jvm.Cond.laysFinal "MeldLog" "MeldLog" "baseRoot" "[S") ∈ lw_all := lw_g (lw_at lw_m1 54 rfl) rfl
theorem q74 : (Jvm.Cond.soleField "MeldLog" "baseRoot") ∈ lw_all := lw_g (lw_at lw_m1 55 rfl) rfl
theorem q75 : (Jvm.Cond.laysFinal "MeldLog" "MeldLog" "readSet" "[I") ∈ lw_all := lw_g (lw_at lw_m1 56 rfl) rfl
theorem q76 : (Jvm.Cond.soleField "MeldLog" "readSet") ∈ lw_all := lw_g (lw_at lw_m1 57 rfl) rfl
theorem q77 : (Jvm.Cond.laysFinal "MeldLog" "MeldLog" "writeCount" "[B") ∈ lw_all := lw_g (lw_at lw_m1 58 rfl) rfl
theorem q78 : (Jvm.Cond.soleField "MeldLog" "writeCount") ∈ lw_all := lw_g (lw_at lw_m1 59 rfl) rfl
theorem q79 : (Jvm.Cond.laysFinal "MeldLog" "MeldLog" "writeKey" "[B") ∈ lw_all := lw_g (lw_at lw_m1 60 rfl) rfl
theorem q80 : (Jvm.Cond.soleField "MeldLog" "writeKey") ∈ lw_all := lw_g (lw_at lw_m1 61 rfl) rfl
theorem q81 : (Jvm.Cond.laysFinal "MeldLog" "MeldLog" "writeValue" "[I") ∈ lw_all := lw_g (lw_at lw_m1 62 rfl) rfl
theorem q82 : (Jvm.Cond.soleField "MeldLog" "writeValue") ∈ lw_all := lw_g (lw_at lw_m1 63 rfl) rfl
theorem q83 : (Jvm.Cond.laysFinal "MeldLog" "MeldLog" "writeHas" "[Z") ∈ lw_all := lw_g (lw_at lw_m1 64 rfl) rfl
theorem q84 : (Jvm.Cond.soleField "MeldLog" "writeHas") ∈ lw_all := lw_g (lw_at lw_m1 65 rfl) rfl
theorem q85 : (Jvm.Cond.laysFinal "MeldLog" "MeldLog" "stackNode" "[S") ∈ lw_all := lw_g (lw_at lw_m1 66 rfl) rfl
theorem q86 : (Jvm.Cond.soleField "MeldLog" "stackNode") ∈ lw_all := lw_g (lw_at lw_m1 67 rfl) rfl
theorem q87 : (Jvm.Cond.laysFinal "MeldLog" "MeldLog" "stackKey" "[B") ∈ lw_all := lw_g (lw_at lw_m1 68 rfl) rfl
theorem q88 : (Jvm.Cond.soleField "MeldLog" "stackKey") ∈ lw_all := lw_g (lw_at lw_m1 69 rfl) rfl
theorem q89 : (Jvm.Cond.laysFinal "MeldLog" "MeldLog" "stackSize" "[B") ∈ lw_all := lw_g (lw_at lw_m1 70 rfl) rfl
theorem q90 : (Jvm.Cond.soleField "MeldLog" "stackSize") ∈ lw_all := lw_g (lw_at lw_m1 71 rfl) rfl
theorem q91 : (Jvm.Cond.lays "MeldLog" "MeldLog" "stackTop" "I") ∈ lw_all := lw_g (lw_at lw_m1 72 rfl) rfl
theorem q92 : (Jvm.Cond.soleField "MeldLog" "stackTop") ∈ lw_all := lw_g (lw_at lw_m1 73 rfl) rfl
theorem q93 : (Jvm.Cond.superclass "MeldLog" "java/lang/Object") ∈ lw_all := lw_g (lw_at lw_m1 74 rfl) rfl
theorem q99 : (Jvm.Cond.instanceMethod ({ cls := "MeldLog", name := "begin", desc := "(I)I" } : Jvm.MethodName)) ∈ lw_all := lw_g (lw_at lw_m1 80 rfl) rfl
theorem q100 : (Jvm.Cond.selects "MeldLog" ({ cls := "MeldLog", name := "begin", desc := "(I)I" } : Jvm.MethodName) ({ cls := "MeldLog", name := "begin", desc := "(I)I" } : Jvm.MethodName)) ∈ lw_all := lw_g (lw_at lw_m1 81 rfl) rfl
theorem q101 : (Jvm.Cond.code ({ cls := "MeldLog", name := "begin", desc := "(I)I" } : Jvm.MethodName) prog_1_method_2_code (2 : Nat) (Option.some Jvm.ClassFile.FieldType.int)) ∈ lw_all := lw_g (lw_at lw_m1 82 rfl) rfl
theorem q103 : (Jvm.Cond.instanceMethod ({ cls := "MeldLog", name := "write", desc := "(III)I" } : Jvm.MethodName)) ∈ lw_all := lw_g (lw_at lw_m1 84 rfl) rfl
theorem q104 : (Jvm.Cond.selects "MeldLog" ({ cls := "MeldLog", name := "write", desc := "(III)I" } : Jvm.MethodName) ({ cls := "MeldLog", name := "write", desc := "(III)I" } : Jvm.MethodName)) ∈ lw_all := lw_g (lw_at lw_m1 85 rfl) rfl
theorem q105 : (Jvm.Cond.code ({ cls := "MeldLog", name := "write", desc := "(III)I" } : Jvm.MethodName) prog_1_method_3_code (4 : Nat) (Option.some Jvm.ClassFile.FieldType.int)) ∈ lw_all := lw_g (lw_at lw_m1 86 rfl) rfl
theorem q106 : (Jvm.Cond.methodLink "MeldLog" (74 : Nat) ({ cls := "MeldLog", name := "put", desc := "(IIIZ)I" } : Jvm.MethodName)) ∈ lw_all := lw_g (lw_at lw_m1 87 rfl) rfl
theorem q107 : (Jvm.Cond.privateMethod ({ cls := "MeldLog", name := "put", desc := "(IIIZ)I" } : Jvm.MethodName)) ∈ lw_tbl := lw_at lw_m1 88 rfl
theorem q108 : (Jvm.Cond.instanceMethod ({ cls := "MeldLog", name := "put", desc := "(IIIZ)I" } : Jvm.MethodName)) ∈ lw_all := lw_g (lw_at lw_m1 89 rfl) rfl
theorem q109 : (Jvm.Cond.code ({ cls := "MeldLog", name := "put", desc := "(IIIZ)I" } : Jvm.MethodName) prog_1_method_5_code (7 : Nat) (Option.some Jvm.ClassFile.FieldType.int)) ∈ lw_all := lw_g (lw_at lw_m1 90 rfl) rfl
theorem q110 : (Jvm.Cond.methodLink "MeldLog" (78 : Nat) ({ cls := "MeldLog", name := "check", desc := "(III)I" } : Jvm.MethodName)) ∈ lw_all := lw_g (lw_at lw_m1 91 rfl) rfl
theorem q111 : (Jvm.Cond.privateMethod ({ cls := "MeldLog", name := "check", desc := "(III)I" } : Jvm.MethodName)) ∈ lw_tbl := lw_at lw_m1 92 rfl
theorem q112 : (Jvm.Cond.instanceMethod ({ cls := "MeldLog", name := "check", desc := "(III)I" } : Jvm.MethodName)) ∈ lw_all := lw_g (lw_at lw_m1 93 rfl) rfl
theorem q113 : (Jvm.Cond.code ({ cls := "MeldLog", name := "check", desc := "(III)I" } : Jvm.MethodName) prog_1_method_6_code (4 : Nat) (Option.some Jvm.ClassFile.FieldType.int)) ∈ lw_all := lw_g (lw_at lw_m1 94 rfl) rfl
theorem q114 : (Jvm.Cond.methodLink "MeldLog" (82 : Nat) ({ cls := "MeldLog", name := "placeOf", desc := "(II)I" } : Jvm.MethodName)) ∈ lw_all := lw_g (lw_at lw_m1 95 rfl) rfl
theorem q115 : (Jvm.Cond.privateMethod ({ cls := "MeldLog", name := "placeOf", desc := "(II)I" } : Jvm.MethodName)) ∈ lw_tbl := lw_at lw_m1 96 rfl
theorem q116 : (Jvm.Cond.instanceMethod ({ cls := "MeldLog", name := "placeOf", desc := "(II)I" } : Jvm.MethodName)) ∈ lw_all := lw_g (lw_at lw_m1 97 rfl) rfl
theorem q117 : (Jvm.Cond.code ({ cls := "MeldLog", name := "placeOf", desc := "(II)I" } : Jvm.MethodName) prog_1_method_7_code (4 : Nat) (Option.some Jvm.ClassFile.FieldType.int)) ∈ lw_all := lw_g (lw_at lw_m1 98 rfl) rfl
theorem q119 : (Jvm.Cond.instanceMethod ({ cls := "MeldLog", name := "erase", desc := "(II)I" } : Jvm.MethodName)) ∈ lw_all := lw_g (lw_at lw_m1 100 rfl) rfl
theorem q120 : (Jvm.Cond.selects "MeldLog" ({ cls := "MeldLog", name := "erase", desc := "(II)I" } : Jvm.MethodName) ({ cls := "MeldLog", name := "erase", desc := "(II)I" } : Jvm.MethodName)) ∈ lw_all := lw_g (lw_at lw_m1 101 rfl) rfl
theorem q121 : (Jvm.Cond.code ({ cls := "MeldLog", name := "erase", desc := "(II)I" } : Jvm.MethodName) prog_1_method_4_code (3 : Nat) (Option.some Jvm.ClassFile.FieldType.int)) ∈ lw_all := lw_g (lw_at lw_m1 102 rfl) rfl
theorem q123 : (Jvm.Cond.instanceMethod ({ cls := "MeldLog", name := "read", desc := "(II)I" } : Jvm.MethodName)) ∈ lw_all := lw_g (lw_at lw_m1 104 rfl) rfl
theorem q124 : (Jvm.Cond.selects "MeldLog" ({ cls := "MeldLog", name := "read", desc := "(II)I" } : Jvm.MethodName) ({ cls := "MeldLog", name := "read", desc := "(II)I" } : Jvm.MethodName)) ∈ lw_all := lw_g (lw_at lw_m1 105 rfl) rfl
theorem q125 : (Jvm.Cond.code ({ cls := "MeldLog", name := "read", desc := "(II)I" } : Jvm.MethodName) prog_1_method_8_code (4 : Nat) (Option.some Jvm.ClassFile.FieldType.int)) ∈ lw_all := lw_g (lw_at lw_m1 106 rfl) rfl
theorem q126 : (Jvm.Cond.methodLink "MeldLog" (86 : Nat) ({ cls := "MeldLog", name := "inView", desc := "(II)Z" } : Jvm.MethodName)) ∈ lw_all := lw_g (lw_at lw_m1 107 rfl) rfl
theorem q127 : (Jvm.Cond.privateMethod ({ cls := "MeldLog", name := "inView", desc := "(II)Z" } : Jvm.MethodName)) ∈ lw_tbl := lw_at lw_m1 108 rfl
theorem q128 : (Jvm.Cond.instanceMethod ({ cls := "MeldLog", name := "inView", desc := "(II)Z" } : Jvm.MethodName)) ∈ lw_all := lw_g (lw_at lw_m1 109 rfl) rfl
theorem q129 : (Jvm.Cond.code ({ cls := "MeldLog", name := "inView", desc := "(II)Z" } : Jvm.MethodName) prog_1_method_11_code (5 : Nat) (Option.some Jvm.ClassFile.FieldType.boolean)) ∈ lw_all := lw_g (lw_at lw_m1 110 rfl) rfl
theorem q130 : (Jvm.Cond.methodLink "MeldLog" (90 : Nat) ({ cls := "MeldLog", name := "leafOf", desc := "(II)I" } : Jvm.MethodName)) ∈ lw_all := lw_g (lw_at lw_m1 111 rfl) rfl
theorem q131 : (Jvm.Cond.privateMethod ({ cls := "MeldLog", name := "leafOf", desc := "(II)I" } : Jvm.MethodName)) ∈ lw_tbl := lw_at lw_m1 112 rfl
theorem q132 : (Jvm.Cond.instanceMethod ({ cls := "MeldLog", name := "leafOf", desc := "(II)I" } : Jvm.MethodName)) ∈ lw_all := lw_g (lw_at lw_m1 113 rfl) rfl
theorem q133 : (Jvm.Cond.code ({ cls := "MeldLog", name := "leafOf", desc := "(II)I" } : Jvm.MethodName) prog_1_method_20_code (5 : Nat) (Option.some Jvm.ClassFile.FieldType.int)) ∈ lw_all := lw_g (lw_at lw_m1 114 rfl) rfl
theorem q135 : (Jvm.Cond.instanceMethod ({ cls := "MeldLog", name := "peek", desc := "(II)I" } : Jvm.MethodName)) ∈ lw_all := lw_g (lw_at lw_m1 116 rfl) rfl
theorem q136 : (Jvm.Cond.selects "MeldLog" ({ cls := "MeldLog", name := "peek", desc := "(II)I" } : Jvm.MethodName) ({ cls := "MeldLog", name := "peek", desc := "(II)I" } : Jvm.MethodName)) ∈ lw_all := lw_g (lw_at lw_m1 117 rfl) rfl
theorem q137 : (Jvm.Cond.code ({ cls := "MeldLog", name := "peek", desc := "(II)I" } : Jvm.MethodName) prog_1_method_9_code (5 : Nat) (Option.some Jvm.ClassFile.FieldType.int)) ∈ lw_all := lw_g (lw_at lw_m1 118 rfl) rfl
theorem q139 : (Jvm.Cond.instanceMethod ({ cls := "MeldLog", name := "countRange", desc := "(III)I" } : Jvm.MethodName)) ∈ lw_all := lw_g (lw_at lw_m1 120 rfl) rfl
theorem q140 : (Jvm.Cond.selects "MeldLog" ({ cls := "MeldLog", name := "countRange", desc := "(III)I" } : Jvm.MethodName) ({ cls := "MeldLog", name := "countRange", desc := "(III)I" } : Jvm.MethodName)) ∈ lw_all := lw_g (lw_at lw_m1 121 rfl) rfl
theorem q141 : (Jvm.Cond.code ({ cls := "MeldLog", name := "countRange", desc := "(III)I" } : Jvm.MethodName) prog_1_method_10_code (7 : Nat) (Option.some Jvm.ClassFile.FieldType.int)) ∈ lw_all := lw_g (lw_at lw_m1 122 rfl) rfl
theorem q143 : (Jvm.Cond.instanceMethod ({ cls := "MeldLog", name := "commit", desc := "(I)I" } : Jvm.MethodName)) ∈ lw_all := lw_g (lw_at lw_m1 124 rfl) rfl
theorem q144 : (Jvm.Cond.selects "MeldLog" ({ cls := "MeldLog", name := "commit", desc := "(I)I" } : Jvm.MethodName) ({ cls := "MeldLog", name := "commit", desc := "(I)I" } : Jvm.MethodName)) ∈ lw_all := lw_g (lw_at lw_m1 125 rfl) rfl
theorem q145 : (Jvm.Cond.code ({ cls := "MeldLog", name := "commit", desc := "(I)I" } : Jvm.MethodName) prog_1_method_12_code (5 : Nat) (Option.some Jvm.ClassFile.FieldType.int)) ∈ lw_all := lw_g (lw_at lw_m1 126 rfl) rfl
theorem q146 : (Jvm.Cond.methodLink "MeldLog" (93 : Nat) ({ cls := "MeldLog", name := "changedSince", desc := "(III)I" } : Jvm.MethodName)) ∈ lw_all := lw_g (lw_at lw_m1 127 rfl) rfl
theorem q147 : (Jvm.Cond.privateMethod ({ cls := "MeldLog", name := "changedSince", desc := "(III)I" } : Jvm.MethodName)) ∈ lw_tbl := lw_at lw_m1 128 rfl
theorem q148 : (Jvm.Cond.instanceMethod ({ cls := "MeldLog", name := "changedSince", desc := "(III)I" } : Jvm.MethodName)) ∈ lw_all := lw_g (lw_at lw_m1 129 rfl) rfl
theorem q149 : (Jvm.Cond.code ({ cls := "MeldLog", name := "changedSince", desc := "(III)I" } : Jvm.MethodName) prog_1_method_22_code (9 : Nat) (Option.some Jvm.ClassFile.FieldType.int)) ∈ lw_all := lw_g (lw_at lw_m1 130 rfl) rfl
theorem q150 : (Jvm.Cond.methodLink "MeldLog" (112 : Nat) ({ cls := "MeldLog", name := "push", desc := "(III)V" } : Jvm.MethodName)) ∈ lw_all := lw_g (lw_at lw_m1 131 rfl) rfl
theorem q151 : (Jvm.Cond.privateMethod ({ cls := "MeldLog", name := "push", desc := "(III)V" } : Jvm.MethodName)) ∈ lw_tbl := lw_at lw_m1 132 rfl
theorem q152 : (Jvm.Cond.instanceMethod ({ cls := "MeldLog", name := "push", desc := "(III)V" } : Jvm.MethodName)) ∈ lw_all := lw_g (lw_at lw_m1 133 rfl) rfl
theorem q153 : (Jvm.Cond.code ({ cls := "MeldLog", name := "push", desc := "(III)V" } : Jvm.MethodName) prog_1_method_21_code (4 : Nat) (Option.none : Option Jvm.ClassFile.FieldType)) ∈ lw_all := lw_g (lw_at lw_m1 134 rfl) rfl
theorem q154 : (Jvm.Cond.methodLink "MeldLog" (96 : Nat) ({ cls := "MeldLog", name := "collect", desc := "()V" } : Jvm.MethodName)) ∈ lw_all := lw_g (lw_at lw_m1 135 rfl) rfl
theorem q155 : (Jvm.Cond.privateMethod ({ cls := "MeldLog", name := "collect", desc := "()V" } : Jvm.MethodName)) ∈ lw_tbl := lw_at lw_m1 136 rfl
theorem q156 : (Jvm.Cond.instanceMethod ({ cls := "MeldLog", name := "collect", desc := "()V" } : Jvm.MethodName)) ∈ lw_all := lw_g (lw_at lw_m1 137 rfl) rfl
theorem q157 : (Jvm.Cond.code ({ cls := "MeldLog", name := "collect", desc := "()V" } : Jvm.MethodName) prog_1_method_26_code (2 : Nat) (Option.none : Option Jvm.ClassFile.FieldType)) ∈ lw_all := lw_g (lw_at lw_m1 138 rfl) rfl
theorem q158 : (Jvm.Cond.methodLink "MeldLog" (120 : Nat) ({ cls := "MeldLog", name := "mark", desc := "(I)V" } : Jvm.MethodName)) ∈ lw_all := lw_g (lw_at lw_m1 139 rfl) rfl
theorem q159 : (Jvm.Cond.privateMethod ({ cls := "MeldLog", name := "mark", desc := "(I)V" } : Jvm.MethodName)) ∈ lw_tbl := lw_at lw_m1 140 rfl
theorem q160 : (Jvm.Cond.instanceMethod ({ cls := "MeldLog", name := "mark", desc := "(I)V" } : Jvm.MethodName)) ∈ lw_all := lw_g (lw_at lw_m1 141 rfl) rfl
theorem q161 : (Jvm.Cond.code ({ cls := "MeldLog", name := "mark", desc := "(I)V" } : Jvm.MethodName) prog_1_method_25_code (3 : Nat) (Option.none : Option Jvm.ClassFile.FieldType)) ∈ lw_all := lw_g (lw_at lw_m1 142 rfl) rfl
theorem q162 : (Jvm.Cond.methodLink "MeldLog" (99 : Nat) ({ cls := "MeldLog", name := "written", desc := "(II)I" } : Jvm.MethodName)) ∈ lw_all := lw_g (lw_at lw_m1 143 rfl) rfl
theorem q163 : (Jvm.Cond.privateMethod ({ cls := "MeldLog", name := "written", desc := "(II)I" } : Jvm.MethodName)) ∈ lw_tbl := lw_at lw_m1 144 rfl
theorem q164 : (Jvm.Cond.instanceMethod ({ cls := "MeldLog", name := "written", desc := "(II)I" } : Jvm.MethodName)) ∈ lw_all := lw_g (lw_at lw_m1 145 rfl) rfl
theorem q165 : (Jvm.Cond.code ({ cls := "MeldLog", name := "written", desc := "(II)I" } : Jvm.MethodName) prog_1_method_24_code (11 : Nat) (Option.some Jvm.ClassFile.FieldType.int)) ∈ lw_all := lw_g (lw_at lw_m1 146 rfl) rfl
theorem q166 : (Jvm.Cond.methodLink "MeldLog" (116 : Nat) ({ cls := "MeldLog", name := "newNode", desc := "()I" } : Jvm.MethodName)) ∈ lw_all := lw_g (lw_at lw_m1 147 rfl) rfl
theorem q167 : (Jvm.Cond.privateMethod ({ cls := "MeldLog", name := "newNode", desc := "()I" } : Jvm.MethodName)) ∈ lw_tbl := lw_at lw_m1 148 rfl
theorem q168 : (Jvm.Cond.instanceMethod ({ cls := "MeldLog", name := "newNode", desc := "()I" } : Jvm.MethodName)) ∈ lw_all := lw_g (lw_at lw_m1 149 rfl) rfl
theorem q169 : (Jvm.Cond.code ({ cls := "MeldLog", name := "newNode", desc := "()I" } : Jvm.MethodName) prog_1_method_23_code (2 : Nat) (Option.some Jvm.ClassFile.FieldType.int)) ∈ lw_all := lw_g (lw_at lw_m1 150 rfl) rfl
theorem q171 : (Jvm.Cond.instanceMethod ({ cls := "MeldLog", name := "abort", desc := "(I)I" } : Jvm.MethodName)) ∈ lw_all := lw_g (lw_at lw_m1 152 rfl) rfl
theorem q172 : (Jvm.Cond.selects "MeldLog" ({ cls := "MeldLog", name := "abort", desc := "(I)I" } : Jvm.MethodName) ({ cls := "MeldLog", name := "abort", desc := "(I)I" } : Jvm.MethodName)) ∈ lw_all := lw_g (lw_at lw_m1 153 rfl) rfl
theorem q173 : (Jvm.Cond.code ({ cls := "MeldLog", name := "abort", desc := "(I)I" } : Jvm.MethodName) prog_1_method_13_code (3 : Nat) (Option.some Jvm.ClassFile.FieldType.int)) ∈ lw_all := lw_g (lw_at lw_m1 154 rfl) rfl
theorem q175 : (Jvm.Cond.instanceMethod ({ cls := "MeldLog", name := "latest", desc := "()I" } : Jvm.MethodName)) ∈ lw_all := lw_g (lw_at lw_m1 156 rfl) rfl
theorem q176 : (Jvm.Cond.selects "MeldLog" ({ cls := "MeldLog", name := "latest", desc := "()I" } : Jvm.MethodName) ({ cls := "MeldLog", name := "latest", desc := "()I" } : Jvm.MethodName)) ∈ lw_all := lw_g (lw_at lw_m1 157 rfl) rfl
theorem q177 : (Jvm.Cond.code ({ cls := "MeldLog", name := "latest", desc := "()I" } : Jvm.MethodName) prog_1_method_14_code (1 : Nat) (Option.some Jvm.ClassFile.FieldType.int)) ∈ lw_all := lw_g (lw_at lw_m1 158 rfl) rfl
theorem q179 : (Jvm.Cond.instanceMethod ({ cls := "MeldLog", name := "has", desc := "(II)Z" } : Jvm.MethodName)) ∈ lw_all := lw_g (lw_at lw_m1 160 rfl) rfl
theorem q180 : (Jvm.Cond.selects "MeldLog" ({ cls := "MeldLog", name := "has", desc := "(II)Z" } : Jvm.MethodName) ({ cls := "MeldLog", name := "has", desc := "(II)Z" } : Jvm.MethodName)) ∈ lw_all := lw_g (lw_at lw_m1 161 rfl) rfl
theorem q181 : (Jvm.Cond.code ({ cls := "MeldLog", name := "has", desc := "(II)Z" } : Jvm.MethodName) prog_1_method_16_code (4 : Nat) (Option.some Jvm.ClassFile.FieldType.boolean)) ∈ lw_all := lw_g (lw_at lw_m1 162 rfl) rfl
theorem q182 : (Jvm.Cond.methodLink "MeldLog" (102 : Nat) ({ cls := "MeldLog", name := "isKept", desc := "(I)Z" } : Jvm.MethodName)) ∈ lw_all := lw_g (lw_at lw_m1 163 rfl) rfl
theorem q183 : (Jvm.Cond.privateMethod ({ cls := "MeldLog", name := "isKept", desc := "(I)Z" } : Jvm.MethodName)) ∈ lw_tbl := lw_at lw_m1 164 rfl
theorem q184 : (Jvm.Cond.instanceMethod ({ cls := "MeldLog", name := "isKept", desc := "(I)Z" } : Jvm.MethodName)) ∈ lw_all := lw_g (lw_at lw_m1 165 rfl) rfl
theorem q185 : (Jvm.Cond.code ({ cls := "MeldLog", name := "isKept", desc := "(I)Z" } : Jvm.MethodName) prog_1_method_15_code (2 : Nat) (Option.some Jvm.ClassFile.FieldType.boolean)) ∈ lw_all := lw_g (lw_at lw_m1 166 rfl) rfl
theorem q187 : (Jvm.Cond.instanceMethod ({ cls := "MeldLog", name := "at", desc := "(II)I" } : Jvm.MethodName)) ∈ lw_all := lw_g (lw_at lw_m1 168 rfl) rfl
theorem q188 : (Jvm.Cond.selects "MeldLog" ({ cls := "MeldLog", name := "at", desc := "(II)I" } : Jvm.MethodName) ({ cls := "MeldLog", name := "at", desc := "(II)I" } : Jvm.MethodName)) ∈ lw_all := lw_g (lw_at lw_m1 169 rfl) rfl
theorem q189 : (Jvm.Cond.code ({ cls := "MeldLog", name := "at", desc := "(II)I" } : Jvm.MethodName) prog_1_method_17_code (4 : Nat) (Option.some Jvm.ClassFile.FieldType.int)) ∈ lw_all := lw_g (lw_at lw_m1 170 rfl) rfl
theorem q190 : (Jvm.Cond.methodLink "MeldLog" (106 : Nat) ({ cls := "MeldLog", name := "has", desc := "(II)Z" } : Jvm.MethodName)) ∈ lw_all := lw_g (lw_at lw_m1 171 rfl) rfl
theorem q192 : (Jvm.Cond.instanceMethod ({ cls := "MeldLog", name := "size", desc := "(I)I" } : Jvm.MethodName)) ∈ lw_all := lw_g (lw_at lw_m1 173 rfl) rfl
theorem q193 : (Jvm.Cond.selects "MeldLog" ({ cls := "MeldLog", name := "size", desc := "(I)I" } : Jvm.MethodName) ({ cls := "MeldLog", name := "size", desc := "(I)I" } : Jvm.MethodName)) ∈ lw_all := lw_g (lw_at lw_m1 174 rfl) rfl
theorem q194 : (Jvm.Cond.code ({ cls := "MeldLog", name := "size", desc := "(I)I" } : Jvm.MethodName) prog_1_method_18_code (4 : Nat) (Option.some Jvm.ClassFile.FieldType.int)) ∈ lw_all := lw_g (lw_at lw_m1 175 rfl) rfl
theorem q196 : (Jvm.Cond.instanceMethod ({ cls := "MeldLog", name := "changed", desc := "(II)I" } : Jvm.MethodName)) ∈ lw_all := lw_g (lw_at lw_m1 177 rfl) rfl
theorem q197 : (Jvm.Cond.selects "MeldLog" ({ cls := "MeldLog", name := "changed", desc := "(II)I" } : Jvm.MethodName) ({ cls := "MeldLog", name := "changed", desc := "(II)I" } : Jvm.MethodName)) ∈ lw_all := lw_g (lw_at lw_m1 178 rfl) rfl
theorem q198 : (Jvm.Cond.code ({ cls := "MeldLog", name := "changed", desc := "(II)I" } : Jvm.MethodName) prog_1_method_19_code (3 : Nat) (Option.some Jvm.ClassFile.FieldType.int)) ∈ lw_all := lw_g (lw_at lw_m1 179 rfl) rfl
theorem in_X0 : ∀ w ∈ wsX00, w ∈ lw_all := lw_in wsX00 [51, 53, 55, 57, 59, 61, 63, 65, 67, 69, 71, 73, 75, 77, 79, 81, 83, 85, 87, 89, 91] (by decide +kernel) (by decide +kernel)

/-! MeldLogModel -/
def RX1 : String := "MeldLogModel"
def TX1 : u_T := fun k => match k with
  | 0 => ("MeldLogModel", "latest", "I", false)
  | 1 => ("MeldLogModel", "there", "[Z", false)
  | 2 => ("MeldLogModel", "value", "[I", false)
  | 3 => ("MeldLogModel", "touched", "[I", false)
  | 4 => ("MeldLogModel", "open", "[Z", false)
  | 5 => ("MeldLogModel", "seen", "[Z", false)
  | 6 => ("MeldLogModel", "view", "[I", false)
  | 7 => ("MeldLogModel", "wrote", "[I", false)
  | 8 => ("MeldLogModel", "readKeys", "[I", false)
  | _ => ("MeldLogModel", "since", "[I", false)
def tyX1 : Nat → FieldType := fun k => match k with
  | 0 => .int
  | 1 => .array .boolean
  | 2 => .array .int
  | 3 => .array .int
  | 4 => .array .boolean
  | 5 => .array .boolean
  | 6 => .array .int
  | 7 => .array .int
  | 8 => .array .int
  | _ => .array .int
abbrev wsX10 : List Cond := u_ws RX1 TX1 10
theorem nmX1 : ∀ a, a < 10 → ∀ b, b < 10 → a ≠ b → (TX1 a).2.1 ≠ (TX1 b).2.1 := by decide +kernel
theorem tyX1_ok : ∀ k, k < 10 → parseFieldDescriptor (TX1 k).2.2.1 = some (tyX1 k) := by decide +kernel
abbrev cX1_init : ByteArray := prog_3_method_1_code
def yX1_init : MethodName := ⟨RX1, "<init>", "()V"⟩
abbrev cX1_begin : ByteArray := prog_3_method_6_code
def yX1_begin : MethodName := ⟨RX1, "begin", "(I)I"⟩
abbrev cX1_isTransaction : ByteArray := prog_3_method_2_code
def yX1_isTransaction : MethodName := ⟨RX1, "isTransaction", "(I)Z"⟩
abbrev cX1_write : ByteArray := prog_3_method_8_code
def yX1_write : MethodName := ⟨RX1, "write", "(III)I"⟩
abbrev cX1_give : ByteArray := prog_3_method_7_code
def yX1_give : MethodName := ⟨RX1, "give", "(IIZI)I"⟩
abbrev cX1_isKey : ByteArray := prog_3_method_3_code
def yX1_isKey : MethodName := ⟨RX1, "isKey", "(I)Z"⟩
abbrev cX1_sizeOf : ByteArray := prog_3_method_5_code
def yX1_sizeOf : MethodName := ⟨RX1, "sizeOf", "(I)I"⟩
abbrev cX1_in : ByteArray := prog_3_method_4_code
def yX1_in : MethodName := ⟨RX1, "in", "(II)Z"⟩
abbrev cX1_erase : ByteArray := prog_3_method_9_code
def yX1_erase : MethodName := ⟨RX1, "erase", "(II)I"⟩
abbrev cX1_read : ByteArray := prog_3_method_10_code
def yX1_read : MethodName := ⟨RX1, "read", "(II)I"⟩
abbrev cX1_peek : ByteArray := prog_3_method_11_code
def yX1_peek : MethodName := ⟨RX1, "peek", "(II)I"⟩
abbrev cX1_countRange : ByteArray := prog_3_method_12_code
def yX1_countRange : MethodName := ⟨RX1, "countRange", "(III)I"⟩
abbrev cX1_commit : ByteArray := prog_3_method_13_code
def yX1_commit : MethodName := ⟨RX1, "commit", "(I)I"⟩
abbrev cX1_abort : ByteArray := prog_3_method_14_code
def yX1_abort : MethodName := ⟨RX1, "abort", "(I)I"⟩
abbrev cX1_latest : ByteArray := prog_3_method_15_code
def yX1_latest : MethodName := ⟨RX1, "latest", "()I"⟩
abbrev cX1_has : ByteArray := prog_3_method_18_code
def yX1_has : MethodName := ⟨RX1, "has", "(II)Z"⟩
abbrev cX1_isKept : ByteArray := prog_3_method_17_code
def yX1_isKept : MethodName := ⟨RX1, "isKept", "(I)Z"⟩
abbrev cX1_exists : ByteArray := prog_3_method_16_code
def yX1_exists : MethodName := ⟨RX1, "exists", "(I)Z"⟩
abbrev cX1_at : ByteArray := prog_3_method_19_code
def yX1_at : MethodName := ⟨RX1, "at", "(II)I"⟩
abbrev cX1_size : ByteArray := prog_3_method_20_code
def yX1_size : MethodName := ⟨RX1, "size", "(I)I"⟩
abbrev cX1_changed : ByteArray := prog_3_method_21_code
def yX1_changed : MethodName := ⟨RX1, "changed", "(II)I"⟩
theorem q21 : (Jvm.Cond.initialized "MeldLogModel") ∈ lw_all := lw_g (lw_at lw_m1 2 rfl) rfl
theorem q200 : (Jvm.Cond.instantiable "MeldLogModel" (10 : Nat)) ∈ lw_all := lw_g (lw_at lw_m1 181 rfl) rfl
theorem q202 : (Jvm.Cond.instanceMethod ({ cls := "MeldLogModel", name := "<init>", desc := "()V" } : Jvm.MethodName)) ∈ lw_all := lw_g (lw_at lw_m1 183 rfl) rfl
theorem q203 : (Jvm.Cond.code ({ cls := "MeldLogModel", name := "<init>", desc := "()V" } : Jvm.MethodName) prog_3_method_1_code (1 : Nat) (Option.none : Option Jvm.ClassFile.FieldType)) ∈ lw_all := lw_g (lw_at lw_m1 184 rfl) rfl
theorem q204 : (Jvm.Cond.methodLink "MeldLogModel" (1 : Nat) ({ cls := "java/lang/Object", name := "<init>", desc := "()V" } : Jvm.MethodName)) ∈ lw_all := lw_g (lw_at lw_m1 185 rfl) rfl
theorem q205 : (Jvm.Cond.fieldLink "MeldLogModel" (7 : Nat) "MeldLogModel" "latest" "I") ∈ lw_all := lw_g (lw_at lw_m1 186 rfl) rfl
theorem q206 : (Jvm.Cond.fieldLink "MeldLogModel" (13 : Nat) "MeldLogModel" "there" "[Z") ∈ lw_all := lw_g (lw_at lw_m1 187 rfl) rfl
theorem q207 : (Jvm.Cond.fieldLink "MeldLogModel" (17 : Nat) "MeldLogModel" "value" "[I") ∈ lw_all := lw_g (lw_at lw_m1 188 rfl) rfl
theorem q208 : (Jvm.Cond.fieldLink "MeldLogModel" (21 : Nat) "MeldLogModel" "touched" "[I") ∈ lw_all := lw_g (lw_at lw_m1 189 rfl) rfl
theorem q209 : (Jvm.Cond.fieldLink "MeldLogModel" (24 : Nat) "MeldLogModel" "open" "[Z") ∈ lw_all := lw_g (lw_at lw_m1 190 rfl) rfl
theorem q210 : (Jvm.Cond.fieldLink "MeldLogModel" (27 : Nat) "MeldLogModel" "seen" "[Z") ∈ lw_all := lw_g (lw_at lw_m1 191 rfl) rfl
theorem q211 : (Jvm.Cond.fieldLink "MeldLogModel" (30 : Nat) "MeldLogModel" "view" "[I") ∈ lw_all := lw_g (lw_at lw_m1 192 rfl) rfl
theorem q212 : (Jvm.Cond.fieldLink "MeldLogModel" (33 : Nat) "MeldLogModel" "wrote" "[I") ∈ lw_all := lw_g (lw_at lw_m1 193 rfl) rfl
theorem q213 : (Jvm.Cond.fieldLink "MeldLogModel" (36 : Nat) "MeldLogModel" "readKeys" "[I") ∈ lw_all := lw_g (lw_at lw_m1 194 rfl) rfl
theorem q214 : (Jvm.Cond.fieldLink "MeldLogModel" (39 : Nat) "MeldLogModel" "since" "[I") ∈ lw_all := lw_g (lw_at lw_m1 195 rfl) rfl
theorem q215 : (Jvm.Cond.lays "MeldLogModel" "MeldLogModel" "latest" "I") ∈ lw_all := lw_g (lw_at lw_m1 196 rfl) rfl
theorem q216 : (Jvm.Cond.soleField "MeldLogModel" "latest") ∈ lw_all := lw_g (lw_at lw_m1 197 rfl) rfl
theorem q217 : (Jvm.Cond.lays "MeldLogModel" "MeldLogModel" "there" "[Z") ∈ lw_all := lw_g (lw_at lw_m1 198 rfl) rfl
theorem q218 : (Jvm.Cond.soleField "MeldLogModel" "there") ∈ lw_all := lw_g (lw_at lw_m1 199 rfl) rfl
theorem q219 : (Jvm.Cond.lays "MeldLogModel" "MeldLogModel" "value" "[I") ∈ lw_all := lw_g (lw_at lw_m1 200 rfl) rfl
theorem q220 : (Jvm.Cond.soleField "MeldLogModel" "value") ∈ lw_all := lw_g (lw_at lw_m1 201 rfl) rfl
theorem q221 : (Jvm.Cond.lays "MeldLogModel" "MeldLogModel" "touched" "[I") ∈ lw_all := lw_g (lw_at lw_m1 202 rfl) rfl
theorem q222 : (Jvm.Cond.soleField "MeldLogModel" "touched") ∈ lw_all := lw_g (lw_at lw_m1 203 rfl) rfl
theorem q223 : (Jvm.Cond.lays "MeldLogModel" "MeldLogModel" "open" "[Z") ∈ lw_all := lw_g (lw_at lw_m1 204 rfl) rfl
theorem q224 : (Jvm.Cond.soleField "MeldLogModel" "open") ∈ lw_all := lw_g (lw_at lw_m1 205 rfl) rfl
theorem q225 : (Jvm.Cond.lays "MeldLogModel" "MeldLogModel" "seen" "[Z") ∈ lw_all := lw_g (lw_at lw_m1 206 rfl) rfl
theorem q226 : (Jvm.Cond.soleField "MeldLogModel" "seen") ∈ lw_all := lw_g (lw_at lw_m1 207 rfl) rfl
theorem q227 : (Jvm.Cond.lays "MeldLogModel" "MeldLogModel" "view" "[I") ∈ lw_all := lw_g (lw_at lw_m1 208 rfl) rfl
theorem q228 : (Jvm.Cond.soleField "MeldLogModel" "view") ∈ lw_all := lw_g (lw_at lw_m1 209 rfl) rfl
theorem q229 : (Jvm.Cond.lays "MeldLogModel" "MeldLogModel" "wrote" "[I") ∈ lw_all := lw_g (lw_at lw_m1 210 rfl) rfl
theorem q230 : (Jvm.Cond.soleField "MeldLogModel" "wrote") ∈ lw_all := lw_g (lw_at lw_m1 211 rfl) rfl
theorem q231 : (Jvm.Cond.lays "MeldLogModel" "MeldLogModel" "readKeys" "[I") ∈ lw_all := lw_g (lw_at lw_m1 212 rfl) rfl
theorem q232 : (Jvm.Cond.soleField "MeldLogModel" "readKeys") ∈ lw_all := lw_g (lw_at lw_m1 213 rfl) rfl
theorem q233 : (Jvm.Cond.lays "MeldLogModel" "MeldLogModel" "since" "[I") ∈ lw_all := lw_g (lw_at lw_m1 214 rfl) rfl
theorem q234 : (Jvm.Cond.soleField "MeldLogModel" "since") ∈ lw_all := lw_g (lw_at lw_m1 215 rfl) rfl
theorem q235 : (Jvm.Cond.superclass "MeldLogModel" "java/lang/Object") ∈ lw_all := lw_g (lw_at lw_m1 216 rfl) rfl
theorem q237 : (Jvm.Cond.instanceMethod ({ cls := "MeldLogModel", name := "begin", desc := "(I)I" } : Jvm.MethodName)) ∈ lw_all := lw_g (lw_at lw_m1 218 rfl) rfl
theorem q238 : (Jvm.Cond.selects "MeldLogModel" ({ cls := "MeldLogModel", name := "begin", desc := "(I)I" } : Jvm.MethodName) ({ cls := "MeldLogModel", name := "begin", desc := "(I)I" } : Jvm.MethodName)) ∈ lw_all := lw_g (lw_at lw_m1 219 rfl) rfl
theorem q239 : (Jvm.Cond.code ({ cls := "MeldLogModel", name := "begin", desc := "(I)I" } : Jvm.MethodName) prog_3_method_6_code (3 : Nat) (Option.some Jvm.ClassFile.FieldType.int)) ∈ lw_all := lw_g (lw_at lw_m1 220 rfl) rfl
theorem q240 : (Jvm.Cond.methodLink "MeldLogModel" (46 : Nat) ({ cls := "MeldLogModel", name := "isTransaction", desc := "(I)Z" } : Jvm.MethodName)) ∈ lw_all := lw_g (lw_at lw_m1 221 rfl) rfl
theorem q241 : (Jvm.Cond.privateMethod ({ cls := "MeldLogModel", name := "isTransaction", desc := "(I)Z" } : Jvm.MethodName)) ∈ lw_tbl := lw_at lw_m1 222 rfl
theorem q242 : (Jvm.Cond.instanceMethod ({ cls := "MeldLogModel", name := "isTransaction", desc := "(I)Z" } : Jvm.MethodName)) ∈ lw_all := lw_g (lw_at lw_m1 223 rfl) rfl
theorem q243 : (Jvm.Cond.code ({ cls := "MeldLogModel", name := "isTransaction", desc := "(I)Z" } : Jvm.MethodName) prog_3_method_2_code (2 : Nat) (Option.some Jvm.ClassFile.FieldType.boolean)) ∈ lw_all := lw_g (lw_at lw_m1 224 rfl) rfl
theorem q245 : (Jvm.Cond.instanceMethod ({ cls := "MeldLogModel", name := "write", desc := "(III)I" } : Jvm.MethodName)) ∈ lw_all := lw_g (lw_at lw_m1 226 rfl) rfl
theorem q246 : (Jvm.Cond.selects "MeldLogModel" ({ cls := "MeldLogModel", name := "write", desc := "(III)I" } : Jvm.MethodName) ({ cls := "MeldLogModel", name := "write", desc := "(III)I" } : Jvm.MethodName)) ∈ lw_all := lw_g (lw_at lw_m1 227 rfl) rfl
theorem q247 : (Jvm.Cond.code ({ cls := "MeldLogModel", name := "write", desc := "(III)I" } : Jvm.MethodName) prog_3_method_8_code (4 : Nat) (Option.some Jvm.ClassFile.FieldType.int)) ∈ lw_all := lw_g (lw_at lw_m1 228 rfl) rfl
theorem q248 : (Jvm.Cond.methodLink "MeldLogModel" (57 : Nat) ({ cls := "MeldLogModel", name := "give", desc := "(IIZI)I" } : Jvm.MethodName)) ∈ lw_all := lw_g (lw_at lw_m1 229 rfl) rfl
theorem q249 : (Jvm.Cond.privateMethod ({ cls := "MeldLogModel", name := "give", desc := "(IIZI)I" } : Jvm.MethodName)) ∈ lw_tbl := lw_at lw_m1 230 rfl
theorem q250 : (Jvm.Cond.instanceMethod ({ cls := "MeldLogModel", name := "give", desc := "(IIZI)I" } : Jvm.MethodName)) ∈ lw_all := lw_g (lw_at lw_m1 231 rfl) rfl
theorem q251 : (Jvm.Cond.code ({ cls := "MeldLogModel", name := "give", desc := "(IIZI)I" } : Jvm.MethodName) prog_3_method_7_code (6 : Nat) (Option.some Jvm.ClassFile.FieldType.int)) ∈ lw_all := lw_g (lw_at lw_m1 232 rfl) rfl
theorem q252 : (Jvm.Cond.methodLink "MeldLogModel" (50 : Nat) ({ cls := "MeldLogModel", name := "isKey", desc := "(I)Z" } : Jvm.MethodName)) ∈ lw_all := lw_g (lw_at lw_m1 233 rfl) rfl
theorem q253 : (Jvm.Cond.privateMethod ({ cls := "MeldLogModel", name := "isKey", desc := "(I)Z" } : Jvm.MethodName)) ∈ lw_tbl := lw_at lw_m1 234 rfl
theorem q254 : (Jvm.Cond.instanceMethod ({ cls := "MeldLogModel", name := "isKey", desc := "(I)Z" } : Jvm.MethodName)) ∈ lw_all := lw_g (lw_at lw_m1 235 rfl) rfl
theorem q255 : (Jvm.Cond.code ({ cls := "MeldLogModel", name := "isKey", desc := "(I)Z" } : Jvm.MethodName) prog_3_method_3_code (2 : Nat) (Option.some Jvm.ClassFile.FieldType.boolean)) ∈ lw_all := lw_g (lw_at lw_m1 236 rfl) rfl
theorem q256 : (Jvm.Cond.methodLink "MeldLogModel" (53 : Nat) ({ cls := "MeldLogModel", name := "sizeOf", desc := "(I)I" } : Jvm.MethodName)) ∈ lw_all := lw_g (lw_at lw_m1 237 rfl) rfl
theorem q257 : (Jvm.Cond.privateMethod ({ cls := "MeldLogModel", name := "sizeOf", desc := "(I)I" } : Jvm.MethodName)) ∈ lw_tbl := lw_at lw_m1 238 rfl
theorem q258 : (Jvm.Cond.instanceMethod ({ cls := "MeldLogModel", name := "sizeOf", desc := "(I)I" } : Jvm.MethodName)) ∈ lw_all := lw_g (lw_at lw_m1 239 rfl) rfl
theorem q259 : (Jvm.Cond.code ({ cls := "MeldLogModel", name := "sizeOf", desc := "(I)I" } : Jvm.MethodName) prog_3_method_5_code (4 : Nat) (Option.some Jvm.ClassFile.FieldType.int)) ∈ lw_all := lw_g (lw_at lw_m2 0 rfl) rfl
theorem q260 : (Jvm.Cond.methodLink "MeldLogModel" (42 : Nat) ({ cls := "MeldLogModel", name := "in", desc := "(II)Z" } : Jvm.MethodName)) ∈ lw_all := lw_g (lw_at lw_m2 1 rfl) rfl
theorem q261 : (Jvm.Cond.privateMethod ({ cls := "MeldLogModel", name := "in", desc := "(II)Z" } : Jvm.MethodName)) ∈ lw_tbl := lw_at lw_m2 2 rfl
theorem q262 : (Jvm.Cond.instanceMethod ({ cls := "MeldLogModel", name := "in", desc := "(II)Z" } : Jvm.MethodName)) ∈ lw_all := lw_g (lw_at lw_m2 3 rfl) rfl
theorem q263 : (Jvm.Cond.code ({ cls := "MeldLogModel", name := "in", desc := "(II)Z" } : Jvm.MethodName) prog_3_method_4_code (3 : Nat) (Option.some Jvm.ClassFile.FieldType.boolean)) ∈ lw_all := lw_g (lw_at lw_m2 4 rfl) rfl
theorem q265 : (Jvm.Cond.instanceMethod ({ cls := "MeldLogModel", name := "erase", desc := "(II)I" } : Jvm.MethodName)) ∈ lw_all := lw_g (lw_at lw_m2 6 rfl) rfl
theorem q266 : (Jvm.Cond.selects "MeldLogModel" ({ cls := "MeldLogModel", name := "erase", desc := "(II)I" } : Jvm.MethodName) ({ cls := "MeldLogModel", name := "erase", desc := "(II)I" } : Jvm.MethodName)) ∈ lw_all := lw_g (lw_at lw_m2 7 rfl) rfl
theorem q267 : (Jvm.Cond.code ({ cls := "MeldLogModel", name := "erase", desc := "(II)I" } : Jvm.MethodName) prog_3_method_9_code (3 : Nat) (Option.some Jvm.ClassFile.FieldType.int)) ∈ lw_all := lw_g (lw_at lw_m2 8 rfl) rfl
theorem q269 : (Jvm.Cond.instanceMethod ({ cls := "MeldLogModel", name := "read", desc := "(II)I" } : Jvm.MethodName)) ∈ lw_all := lw_g (lw_at lw_m2 10 rfl) rfl
theorem q270 : (Jvm.Cond.selects "MeldLogModel" ({ cls := "MeldLogModel", name := "read", desc := "(II)I" } : Jvm.MethodName) ({ cls := "MeldLogModel", name := "read", desc := "(II)I" } : Jvm.MethodName)) ∈ lw_all := lw_g (lw_at lw_m2 11 rfl) rfl
theorem q271 : (Jvm.Cond.code ({ cls := "MeldLogModel", name := "read", desc := "(II)I" } : Jvm.MethodName) prog_3_method_10_code (3 : Nat) (Option.some Jvm.ClassFile.FieldType.int)) ∈ lw_all := lw_g (lw_at lw_m2 12 rfl) rfl
theorem q273 : (Jvm.Cond.instanceMethod ({ cls := "MeldLogModel", name := "peek", desc := "(II)I" } : Jvm.MethodName)) ∈ lw_all := lw_g (lw_at lw_m2 14 rfl) rfl
theorem q274 : (Jvm.Cond.selects "MeldLogModel" ({ cls := "MeldLogModel", name := "peek", desc := "(II)I" } : Jvm.MethodName) ({ cls := "MeldLogModel", name := "peek", desc := "(II)I" } : Jvm.MethodName)) ∈ lw_all := lw_g (lw_at lw_m2 15 rfl) rfl
theorem q275 : (Jvm.Cond.code ({ cls := "MeldLogModel", name := "peek", desc := "(II)I" } : Jvm.MethodName) prog_3_method_11_code (3 : Nat) (Option.some Jvm.ClassFile.FieldType.int)) ∈ lw_all := lw_g (lw_at lw_m2 16 rfl) rfl
theorem q277 : (Jvm.Cond.instanceMethod ({ cls := "MeldLogModel", name := "countRange", desc := "(III)I" } : Jvm.MethodName)) ∈ lw_all := lw_g (lw_at lw_m2 18 rfl) rfl
theorem q278 : (Jvm.Cond.selects "MeldLogModel" ({ cls := "MeldLogModel", name := "countRange", desc := "(III)I" } : Jvm.MethodName) ({ cls := "MeldLogModel", name := "countRange", desc := "(III)I" } : Jvm.MethodName)) ∈ lw_all := lw_g (lw_at lw_m2 19 rfl) rfl
theorem q279 : (Jvm.Cond.code ({ cls := "MeldLogModel", name := "countRange", desc := "(III)I" } : Jvm.MethodName) prog_3_method_12_code (6 : Nat) (Option.some Jvm.ClassFile.FieldType.int)) ∈ lw_all := lw_g (lw_at lw_m2 20 rfl) rfl
theorem q280 : (Jvm.Cond.methodLink "MeldLogModel" (61 : Nat) ({ cls := "MeldLogModel", name := "read", desc := "(II)I" } : Jvm.MethodName)) ∈ lw_all := lw_g (lw_at lw_m2 21 rfl) rfl
theorem q282 : (Jvm.Cond.instanceMethod ({ cls := "MeldLogModel", name := "commit", desc := "(I)I" } : Jvm.MethodName)) ∈ lw_all := lw_g (lw_at lw_m2 23 rfl) rfl
theorem q283 : (Jvm.Cond.selects "MeldLogModel" ({ cls := "MeldLogModel", name := "commit", desc := "(I)I" } : Jvm.MethodName) ({ cls := "MeldLogModel", name := "commit", desc := "(I)I" } : Jvm.MethodName)) ∈ lw_all := lw_g (lw_at lw_m2 24 rfl) rfl
theorem q284 : (Jvm.Cond.code ({ cls := "MeldLogModel", name := "commit", desc := "(I)I" } : Jvm.MethodName) prog_3_method_13_code (6 : Nat) (Option.some Jvm.ClassFile.FieldType.int)) ∈ lw_all := lw_g (lw_at lw_m2 25 rfl) rfl
theorem q286 : (Jvm.Cond.instanceMethod ({ cls := "MeldLogModel", name := "abort", desc := "(I)I" } : Jvm.MethodName)) ∈ lw_all := lw_g (lw_at lw_m2 27 rfl) rfl
theorem q287 : (Jvm.Cond.selects "MeldLogModel" ({ cls := "MeldLogModel", name := "abort", desc := "(I)I" } : Jvm.MethodName) ({ cls := "MeldLogModel", name := "abort", desc := "(I)I" } : Jvm.MethodName)) ∈ lw_all := lw_g (lw_at lw_m2 28 rfl) rfl
theorem q288 : (Jvm.Cond.code ({ cls := "MeldLogModel", name := "abort", desc := "(I)I" } : Jvm.MethodName) prog_3_method_14_code (2 : Nat) (Option.some Jvm.ClassFile.FieldType.int)) ∈ lw_all := lw_g (lw_at lw_m2 29 rfl) rfl
theorem q290 : (Jvm.Cond.instanceMethod ({ cls := "MeldLogModel", name := "latest", desc := "()I" } : Jvm.MethodName)) ∈ lw_all := lw_g (lw_at lw_m2 31 rfl) rfl
theorem q291 : (Jvm.Cond.selects "MeldLogModel" ({ cls := "MeldLogModel", name := "latest", desc := "()I" } : Jvm.MethodName) ({ cls := "MeldLogModel", name := "latest", desc := "()I" } : Jvm.MethodName)) ∈ lw_all := lw_g (lw_at lw_m2 32 rfl) rfl
theorem q292 : (Jvm.Cond.code ({ cls := "MeldLogModel", name := "latest", desc := "()I" } : Jvm.MethodName) prog_3_method_15_code (1 : Nat) (Option.some Jvm.ClassFile.FieldType.int)) ∈ lw_all := lw_g (lw_at lw_m2 33 rfl) rfl
theorem q294 : (Jvm.Cond.instanceMethod ({ cls := "MeldLogModel", name := "has", desc := "(II)Z" } : Jvm.MethodName)) ∈ lw_all := lw_g (lw_at lw_m2 35 rfl) rfl
theorem q295 : (Jvm.Cond.selects "MeldLogModel" ({ cls := "MeldLogModel", name := "has", desc := "(II)Z" } : Jvm.MethodName) ({ cls := "MeldLogModel", name := "has", desc := "(II)Z" } : Jvm.MethodName)) ∈ lw_all := lw_g (lw_at lw_m2 36 rfl) rfl
theorem q296 : (Jvm.Cond.code ({ cls := "MeldLogModel", name := "has", desc := "(II)Z" } : Jvm.MethodName) prog_3_method_18_code (3 : Nat) (Option.some Jvm.ClassFile.FieldType.boolean)) ∈ lw_all := lw_g (lw_at lw_m2 37 rfl) rfl
theorem q297 : (Jvm.Cond.methodLink "MeldLogModel" (68 : Nat) ({ cls := "MeldLogModel", name := "isKept", desc := "(I)Z" } : Jvm.MethodName)) ∈ lw_all := lw_g (lw_at lw_m2 38 rfl) rfl
theorem q298 : (Jvm.Cond.privateMethod ({ cls := "MeldLogModel", name := "isKept", desc := "(I)Z" } : Jvm.MethodName)) ∈ lw_tbl := lw_at lw_m2 39 rfl
theorem q299 : (Jvm.Cond.instanceMethod ({ cls := "MeldLogModel", name := "isKept", desc := "(I)Z" } : Jvm.MethodName)) ∈ lw_all := lw_g (lw_at lw_m2 40 rfl) rfl
theorem q300 : (Jvm.Cond.code ({ cls := "MeldLogModel", name := "isKept", desc := "(I)Z" } : Jvm.MethodName) prog_3_method_17_code (2 : Nat) (Option.some Jvm.ClassFile.FieldType.boolean)) ∈ lw_all := lw_g (lw_at lw_m2 41 rfl) rfl
theorem q301 : (Jvm.Cond.methodLink "MeldLogModel" (65 : Nat) ({ cls := "MeldLogModel", name := "exists", desc := "(I)Z" } : Jvm.MethodName)) ∈ lw_all := lw_g (lw_at lw_m2 42 rfl) rfl
theorem q302 : (Jvm.Cond.privateMethod ({ cls := "MeldLogModel", name := "exists", desc := "(I)Z" } : Jvm.MethodName)) ∈ lw_tbl := lw_at lw_m2 43 rfl
theorem q303 : (Jvm.Cond.instanceMethod ({ cls := "MeldLogModel", name := "exists", desc := "(I)Z" } : Jvm.MethodName)) ∈ lw_all := lw_g (lw_at lw_m2 44 rfl) rfl
theorem q304 : (Jvm.Cond.code ({ cls := "MeldLogModel", name := "exists", desc := "(I)Z" } : Jvm.MethodName) prog_3_method_16_code (2 : Nat) (Option.some Jvm.ClassFile.FieldType.boolean)) ∈ lw_all := lw_g (lw_at lw_m2 45 rfl) rfl
theorem q306 : (Jvm.Cond.instanceMethod ({ cls := "MeldLogModel", name := "at", desc := "(II)I" } : Jvm.MethodName)) ∈ lw_all := lw_g (lw_at lw_m2 47 rfl) rfl
theorem q307 : (Jvm.Cond.selects "MeldLogModel" ({ cls := "MeldLogModel", name := "at", desc := "(II)I" } : Jvm.MethodName) ({ cls := "MeldLogModel", name := "at", desc := "(II)I" } : Jvm.MethodName)) ∈ lw_all := lw_g (lw_at lw_m2 48 rfl) rfl
theorem q308 : (Jvm.Cond.code ({ cls := "MeldLogModel", name := "at", desc := "(II)I" } : Jvm.MethodName) prog_3_method_19_code (3 : Nat) (Option.some Jvm.ClassFile.FieldType.int)) ∈ lw_all := lw_g (lw_at lw_m2 49 rfl) rfl
theorem q309 : (Jvm.Cond.methodLink "MeldLogModel" (71 : Nat) ({ cls := "MeldLogModel", name := "has", desc := "(II)Z" } : Jvm.MethodName)) ∈ lw_all := lw_g (lw_at lw_m2 50 rfl) rfl
theorem q311 : (Jvm.Cond.instanceMethod ({ cls := "MeldLogModel", name := "size", desc := "(I)I" } : Jvm.MethodName)) ∈ lw_all := lw_g (lw_at lw_m2 52 rfl) rfl
theorem q312 : (Jvm.Cond.selects "MeldLogModel" ({ cls := "MeldLogModel", name := "size", desc := "(I)I" } : Jvm.MethodName) ({ cls := "MeldLogModel", name := "size", desc := "(I)I" } : Jvm.MethodName)) ∈ lw_all := lw_g (lw_at lw_m2 53 rfl) rfl
theorem q313 : (Jvm.Cond.code ({ cls := "MeldLogModel", name := "size", desc := "(I)I" } : Jvm.MethodName) prog_3_method_20_code (4 : Nat) (Option.some Jvm.ClassFile.FieldType.int)) ∈ lw_all := lw_g (lw_at lw_m2 54 rfl) rfl
theorem q315 : (Jvm.Cond.instanceMethod ({ cls := "MeldLogModel", name := "changed", desc := "(II)I" } : Jvm.MethodName)) ∈ lw_all := lw_g (lw_at lw_m2 56 rfl) rfl
theorem q316 : (Jvm.Cond.selects "MeldLogModel" ({ cls := "MeldLogModel", name := "changed", desc := "(II)I" } : Jvm.MethodName) ({ cls := "MeldLogModel", name := "changed", desc := "(II)I" } : Jvm.MethodName)) ∈ lw_all := lw_g (lw_at lw_m2 57 rfl) rfl
theorem q317 : (Jvm.Cond.code ({ cls := "MeldLogModel", name := "changed", desc := "(II)I" } : Jvm.MethodName) prog_3_method_21_code (5 : Nat) (Option.some Jvm.ClassFile.FieldType.int)) ∈ lw_all := lw_g (lw_at lw_m2 58 rfl) rfl
theorem in_X1 : ∀ w ∈ wsX10, w ∈ lw_all := lw_in wsX10 [215, 217, 219, 221, 223, 225, 227, 229, 231, 233] (by decide +kernel) (by decide +kernel)

/-! java/lang/Object -/
def RJ0 : String := "java/lang/Object"
abbrev cJ0_init : ByteArray := object_method_1_code
def yJ0_init : MethodName := ⟨RJ0, "<init>", "()V"⟩
theorem dJ0_init_0 : decode cJ0_init 0 = .ok (.return_, 1) := by decide +kernel
theorem q28 : (Jvm.Cond.instanceMethod ({ cls := "java/lang/Object", name := "<init>", desc := "()V" } : Jvm.MethodName)) ∈ lw_all := lw_g (lw_at lw_m1 9 rfl) rfl
theorem q29 : (Jvm.Cond.code ({ cls := "java/lang/Object", name := "<init>", desc := "()V" } : Jvm.MethodName) object_method_1_code (1 : Nat) (Option.none : Option Jvm.ClassFile.FieldType)) ∈ lw_all := lw_g (lw_at lw_m1 10 rfl) rfl

theorem q94 : (Jvm.Cond.arrayClass Jvm.ClassFile.FieldType.short) ∈ lw_all := lw_g (lw_at lw_m1 75 rfl) rfl
theorem q95 : (Jvm.Cond.arrayClass Jvm.ClassFile.FieldType.int) ∈ lw_all := lw_g (lw_at lw_m1 76 rfl) rfl
theorem q96 : (Jvm.Cond.arrayClass Jvm.ClassFile.FieldType.boolean) ∈ lw_all := lw_g (lw_at lw_m1 77 rfl) rfl
theorem q97 : (Jvm.Cond.arrayClass Jvm.ClassFile.FieldType.byte) ∈ lw_all := lw_g (lw_at lw_m1 78 rfl) rfl

theorem q19 : (Jvm.Cond.initialized "MeldLogLaw") ∈ lw_all := lw_g (lw_at lw_m1 0 rfl) rfl
theorem q22 : (Jvm.Cond.classLink "MeldLogLaw" (7 : Nat) "MeldLog") ∈ lw_all := lw_g (lw_at lw_m1 3 rfl) rfl
theorem q24 : (Jvm.Cond.methodLink "MeldLogLaw" (9 : Nat) ({ cls := "MeldLog", name := "<init>", desc := "()V" } : Jvm.MethodName)) ∈ lw_all := lw_g (lw_at lw_m1 5 rfl) rfl
theorem q98 : (Jvm.Cond.methodLink "MeldLogLaw" (13 : Nat) ({ cls := "MeldLog", name := "begin", desc := "(I)I" } : Jvm.MethodName)) ∈ lw_all := lw_g (lw_at lw_m1 79 rfl) rfl
theorem q102 : (Jvm.Cond.methodLink "MeldLogLaw" (18 : Nat) ({ cls := "MeldLog", name := "write", desc := "(III)I" } : Jvm.MethodName)) ∈ lw_all := lw_g (lw_at lw_m1 83 rfl) rfl
theorem q118 : (Jvm.Cond.methodLink "MeldLogLaw" (23 : Nat) ({ cls := "MeldLog", name := "erase", desc := "(II)I" } : Jvm.MethodName)) ∈ lw_all := lw_g (lw_at lw_m1 99 rfl) rfl
theorem q122 : (Jvm.Cond.methodLink "MeldLogLaw" (28 : Nat) ({ cls := "MeldLog", name := "read", desc := "(II)I" } : Jvm.MethodName)) ∈ lw_all := lw_g (lw_at lw_m1 103 rfl) rfl
theorem q134 : (Jvm.Cond.methodLink "MeldLogLaw" (32 : Nat) ({ cls := "MeldLog", name := "peek", desc := "(II)I" } : Jvm.MethodName)) ∈ lw_all := lw_g (lw_at lw_m1 115 rfl) rfl
theorem q138 : (Jvm.Cond.methodLink "MeldLogLaw" (36 : Nat) ({ cls := "MeldLog", name := "countRange", desc := "(III)I" } : Jvm.MethodName)) ∈ lw_all := lw_g (lw_at lw_m1 119 rfl) rfl
theorem q142 : (Jvm.Cond.methodLink "MeldLogLaw" (40 : Nat) ({ cls := "MeldLog", name := "commit", desc := "(I)I" } : Jvm.MethodName)) ∈ lw_all := lw_g (lw_at lw_m1 123 rfl) rfl
theorem q170 : (Jvm.Cond.methodLink "MeldLogLaw" (44 : Nat) ({ cls := "MeldLog", name := "abort", desc := "(I)I" } : Jvm.MethodName)) ∈ lw_all := lw_g (lw_at lw_m1 151 rfl) rfl
theorem q174 : (Jvm.Cond.methodLink "MeldLogLaw" (48 : Nat) ({ cls := "MeldLog", name := "latest", desc := "()I" } : Jvm.MethodName)) ∈ lw_all := lw_g (lw_at lw_m1 155 rfl) rfl
theorem q178 : (Jvm.Cond.methodLink "MeldLogLaw" (53 : Nat) ({ cls := "MeldLog", name := "has", desc := "(II)Z" } : Jvm.MethodName)) ∈ lw_all := lw_g (lw_at lw_m1 159 rfl) rfl
theorem q186 : (Jvm.Cond.methodLink "MeldLogLaw" (58 : Nat) ({ cls := "MeldLog", name := "at", desc := "(II)I" } : Jvm.MethodName)) ∈ lw_all := lw_g (lw_at lw_m1 167 rfl) rfl
theorem q191 : (Jvm.Cond.methodLink "MeldLogLaw" (62 : Nat) ({ cls := "MeldLog", name := "size", desc := "(I)I" } : Jvm.MethodName)) ∈ lw_all := lw_g (lw_at lw_m1 172 rfl) rfl
theorem q195 : (Jvm.Cond.methodLink "MeldLogLaw" (66 : Nat) ({ cls := "MeldLog", name := "changed", desc := "(II)I" } : Jvm.MethodName)) ∈ lw_all := lw_g (lw_at lw_m1 176 rfl) rfl
theorem q199 : (Jvm.Cond.classLink "MeldLogLaw" (10 : Nat) "MeldLogModel") ∈ lw_all := lw_g (lw_at lw_m1 180 rfl) rfl
theorem q201 : (Jvm.Cond.methodLink "MeldLogLaw" (12 : Nat) ({ cls := "MeldLogModel", name := "<init>", desc := "()V" } : Jvm.MethodName)) ∈ lw_all := lw_g (lw_at lw_m1 182 rfl) rfl
theorem q236 : (Jvm.Cond.methodLink "MeldLogLaw" (17 : Nat) ({ cls := "MeldLogModel", name := "begin", desc := "(I)I" } : Jvm.MethodName)) ∈ lw_all := lw_g (lw_at lw_m1 217 rfl) rfl
theorem q244 : (Jvm.Cond.methodLink "MeldLogLaw" (22 : Nat) ({ cls := "MeldLogModel", name := "write", desc := "(III)I" } : Jvm.MethodName)) ∈ lw_all := lw_g (lw_at lw_m1 225 rfl) rfl
theorem q264 : (Jvm.Cond.methodLink "MeldLogLaw" (27 : Nat) ({ cls := "MeldLogModel", name := "erase", desc := "(II)I" } : Jvm.MethodName)) ∈ lw_all := lw_g (lw_at lw_m2 5 rfl) rfl
theorem q268 : (Jvm.Cond.methodLink "MeldLogLaw" (31 : Nat) ({ cls := "MeldLogModel", name := "read", desc := "(II)I" } : Jvm.MethodName)) ∈ lw_all := lw_g (lw_at lw_m2 9 rfl) rfl
theorem q272 : (Jvm.Cond.methodLink "MeldLogLaw" (35 : Nat) ({ cls := "MeldLogModel", name := "peek", desc := "(II)I" } : Jvm.MethodName)) ∈ lw_all := lw_g (lw_at lw_m2 13 rfl) rfl
theorem q276 : (Jvm.Cond.methodLink "MeldLogLaw" (39 : Nat) ({ cls := "MeldLogModel", name := "countRange", desc := "(III)I" } : Jvm.MethodName)) ∈ lw_all := lw_g (lw_at lw_m2 17 rfl) rfl
theorem q281 : (Jvm.Cond.methodLink "MeldLogLaw" (43 : Nat) ({ cls := "MeldLogModel", name := "commit", desc := "(I)I" } : Jvm.MethodName)) ∈ lw_all := lw_g (lw_at lw_m2 22 rfl) rfl
theorem q285 : (Jvm.Cond.methodLink "MeldLogLaw" (47 : Nat) ({ cls := "MeldLogModel", name := "abort", desc := "(I)I" } : Jvm.MethodName)) ∈ lw_all := lw_g (lw_at lw_m2 26 rfl) rfl
theorem q289 : (Jvm.Cond.methodLink "MeldLogLaw" (52 : Nat) ({ cls := "MeldLogModel", name := "latest", desc := "()I" } : Jvm.MethodName)) ∈ lw_all := lw_g (lw_at lw_m2 30 rfl) rfl
theorem q293 : (Jvm.Cond.methodLink "MeldLogLaw" (57 : Nat) ({ cls := "MeldLogModel", name := "has", desc := "(II)Z" } : Jvm.MethodName)) ∈ lw_all := lw_g (lw_at lw_m2 34 rfl) rfl
theorem q305 : (Jvm.Cond.methodLink "MeldLogLaw" (61 : Nat) ({ cls := "MeldLogModel", name := "at", desc := "(II)I" } : Jvm.MethodName)) ∈ lw_all := lw_g (lw_at lw_m2 46 rfl) rfl
theorem q310 : (Jvm.Cond.methodLink "MeldLogLaw" (65 : Nat) ({ cls := "MeldLogModel", name := "size", desc := "(I)I" } : Jvm.MethodName)) ∈ lw_all := lw_g (lw_at lw_m2 51 rfl) rfl
theorem q314 : (Jvm.Cond.methodLink "MeldLogLaw" (69 : Nat) ({ cls := "MeldLogModel", name := "changed", desc := "(II)I" } : Jvm.MethodName)) ∈ lw_all := lw_g (lw_at lw_m2 55 rfl) rfl
end
section
set_option maxRecDepth 100000
theorem dX0_init_0 : decode cX0_init 0 = .ok (.aload_n 0, 1) := by decide +kernel
theorem dX0_init_1 : decode cX0_init 1 = .ok (.invokespecial 1, 3) := by decide +kernel
theorem dX0_init_4 : decode cX0_init 4 = .ok (.aload_n 0, 1) := by decide +kernel
theorem dX0_init_5 : decode cX0_init 5 = .ok (.sipush 1024, 3) := by decide +kernel
theorem dX0_init_8 : decode cX0_init 8 = .ok (.newarray .short, 2) := by decide +kernel
theorem dX0_init_10 : decode cX0_init 10 = .ok (.putfield 7, 3) := by decide +kernel
theorem dX0_init_13 : decode cX0_init 13 = .ok (.aload_n 0, 1) := by decide +kernel
theorem dX0_init_14 : decode cX0_init 14 = .ok (.sipush 512, 3) := by decide +kernel
theorem dX0_init_17 : decode cX0_init 17 = .ok (.newarray .int, 2) := by decide +kernel
theorem dX0_init_19 : decode cX0_init 19 = .ok (.putfield 13, 3) := by decide +kernel
theorem dX0_init_22 : decode cX0_init 22 = .ok (.aload_n 0, 1) := by decide +kernel
theorem dX0_init_23 : decode cX0_init 23 = .ok (.sipush 512, 3) := by decide +kernel
theorem dX0_init_26 : decode cX0_init 26 = .ok (.newarray .boolean, 2) := by decide +kernel
theorem dX0_init_28 : decode cX0_init 28 = .ok (.putfield 17, 3) := by decide +kernel
theorem dX0_init_31 : decode cX0_init 31 = .ok (.aload_n 0, 1) := by decide +kernel
theorem dX0_init_32 : decode cX0_init 32 = .ok (.sipush 512, 3) := by decide +kernel
theorem dX0_init_35 : decode cX0_init 35 = .ok (.newarray .int, 2) := by decide +kernel
theorem dX0_init_37 : decode cX0_init 37 = .ok (.putfield 21, 3) := by decide +kernel
theorem dX0_init_40 : decode cX0_init 40 = .ok (.aload_n 0, 1) := by decide +kernel
theorem dX0_init_41 : decode cX0_init 41 = .ok (.sipush 512, 3) := by decide +kernel
theorem dX0_init_44 : decode cX0_init 44 = .ok (.newarray .boolean, 2) := by decide +kernel
theorem dX0_init_46 : decode cX0_init 46 = .ok (.putfield 24, 3) := by decide +kernel
theorem dX0_init_49 : decode cX0_init 49 = .ok (.aload_n 0, 1) := by decide +kernel
theorem dX0_init_50 : decode cX0_init 50 = .ok (.sipush 512, 3) := by decide +kernel
theorem dX0_init_53 : decode cX0_init 53 = .ok (.newarray .short, 2) := by decide +kernel
theorem dX0_init_55 : decode cX0_init 55 = .ok (.putfield 27, 3) := by decide +kernel
theorem dX0_init_58 : decode cX0_init 58 = .ok (.aload_n 0, 1) := by decide +kernel
theorem dX0_init_59 : decode cX0_init 59 = .ok (.bipush 6, 2) := by decide +kernel
theorem dX0_init_61 : decode cX0_init 61 = .ok (.newarray .short, 2) := by decide +kernel
theorem dX0_init_63 : decode cX0_init 63 = .ok (.putfield 30, 3) := by decide +kernel
theorem dX0_init_66 : decode cX0_init 66 = .ok (.aload_n 0, 1) := by decide +kernel
theorem dX0_init_67 : decode cX0_init 67 = .ok (.iconst 4, 1) := by decide +kernel
theorem dX0_init_68 : decode cX0_init 68 = .ok (.newarray .boolean, 2) := by decide +kernel
theorem dX0_init_70 : decode cX0_init 70 = .ok (.putfield 33, 3) := by decide +kernel
theorem dX0_init_73 : decode cX0_init 73 = .ok (.aload_n 0, 1) := by decide +kernel
theorem dX0_init_74 : decode cX0_init 74 = .ok (.iconst 4, 1) := by decide +kernel
theorem dX0_init_75 : decode cX0_init 75 = .ok (.newarray .int, 2) := by decide +kernel
theorem dX0_init_77 : decode cX0_init 77 = .ok (.putfield 36, 3) := by decide +kernel
theorem dX0_init_80 : decode cX0_init 80 = .ok (.aload_n 0, 1) := by decide +kernel
theorem dX0_init_81 : decode cX0_init 81 = .ok (.iconst 4, 1) := by decide +kernel
theorem dX0_init_82 : decode cX0_init 82 = .ok (.newarray .short, 2) := by decide +kernel
theorem dX0_init_84 : decode cX0_init 84 = .ok (.putfield 39, 3) := by decide +kernel
theorem dX0_init_87 : decode cX0_init 87 = .ok (.aload_n 0, 1) := by decide +kernel
theorem dX0_init_88 : decode cX0_init 88 = .ok (.iconst 4, 1) := by decide +kernel
theorem dX0_init_89 : decode cX0_init 89 = .ok (.newarray .int, 2) := by decide +kernel
theorem dX0_init_91 : decode cX0_init 91 = .ok (.putfield 42, 3) := by decide +kernel
theorem dX0_init_94 : decode cX0_init 94 = .ok (.aload_n 0, 1) := by decide +kernel
theorem dX0_init_95 : decode cX0_init 95 = .ok (.iconst 4, 1) := by decide +kernel
theorem dX0_init_96 : decode cX0_init 96 = .ok (.newarray .byte, 2) := by decide +kernel
theorem dX0_init_98 : decode cX0_init 98 = .ok (.putfield 45, 3) := by decide +kernel
theorem dX0_init_101 : decode cX0_init 101 = .ok (.aload_n 0, 1) := by decide +kernel
theorem dX0_init_102 : decode cX0_init 102 = .ok (.bipush 24, 2) := by decide +kernel
theorem dX0_init_104 : decode cX0_init 104 = .ok (.newarray .byte, 2) := by decide +kernel
theorem dX0_init_106 : decode cX0_init 106 = .ok (.putfield 49, 3) := by decide +kernel
theorem dX0_init_109 : decode cX0_init 109 = .ok (.aload_n 0, 1) := by decide +kernel
theorem dX0_init_110 : decode cX0_init 110 = .ok (.bipush 24, 2) := by decide +kernel
theorem dX0_init_112 : decode cX0_init 112 = .ok (.newarray .int, 2) := by decide +kernel
theorem dX0_init_114 : decode cX0_init 114 = .ok (.putfield 52, 3) := by decide +kernel
theorem dX0_init_117 : decode cX0_init 117 = .ok (.aload_n 0, 1) := by decide +kernel
theorem dX0_init_118 : decode cX0_init 118 = .ok (.bipush 24, 2) := by decide +kernel
theorem dX0_init_120 : decode cX0_init 120 = .ok (.newarray .boolean, 2) := by decide +kernel
theorem dX0_init_122 : decode cX0_init 122 = .ok (.putfield 55, 3) := by decide +kernel
theorem dX0_init_125 : decode cX0_init 125 = .ok (.aload_n 0, 1) := by decide +kernel
theorem dX0_init_126 : decode cX0_init 126 = .ok (.bipush 16, 2) := by decide +kernel
theorem dX0_init_128 : decode cX0_init 128 = .ok (.newarray .short, 2) := by decide +kernel
theorem dX0_init_130 : decode cX0_init 130 = .ok (.putfield 58, 3) := by decide +kernel
theorem dX0_init_133 : decode cX0_init 133 = .ok (.aload_n 0, 1) := by decide +kernel
theorem dX0_init_134 : decode cX0_init 134 = .ok (.bipush 16, 2) := by decide +kernel
theorem dX0_init_136 : decode cX0_init 136 = .ok (.newarray .byte, 2) := by decide +kernel
theorem dX0_init_138 : decode cX0_init 138 = .ok (.putfield 61, 3) := by decide +kernel
theorem dX0_init_141 : decode cX0_init 141 = .ok (.aload_n 0, 1) := by decide +kernel
theorem dX0_init_142 : decode cX0_init 142 = .ok (.bipush 16, 2) := by decide +kernel
theorem dX0_init_144 : decode cX0_init 144 = .ok (.newarray .byte, 2) := by decide +kernel
theorem dX0_init_146 : decode cX0_init 146 = .ok (.putfield 64, 3) := by decide +kernel
theorem dX0_init_149 : decode cX0_init 149 = .ok (.sipush 511, 3) := by decide +kernel
theorem dX0_init_152 : decode cX0_init 152 = .ok (.istore_n 1, 1) := by decide +kernel
theorem dX0_init_153 : decode cX0_init 153 = .ok (.iload_n 1, 1) := by decide +kernel
theorem dX0_init_154 : decode cX0_init 154 = .ok (.ifCond .lt 30, 3) := by decide +kernel
theorem dX0_init_157 : decode cX0_init 157 = .ok (.aload_n 0, 1) := by decide +kernel
theorem dX0_init_158 : decode cX0_init 158 = .ok (.getfield 27, 3) := by decide +kernel
theorem dX0_init_161 : decode cX0_init 161 = .ok (.aload_n 0, 1) := by decide +kernel
theorem dX0_init_162 : decode cX0_init 162 = .ok (.getfield 67, 3) := by decide +kernel
theorem dX0_init_165 : decode cX0_init 165 = .ok (.iload_n 1, 1) := by decide +kernel
theorem dX0_init_166 : decode cX0_init 166 = .ok (.i2s, 1) := by decide +kernel
theorem dX0_init_167 : decode cX0_init 167 = .ok (.sastore, 1) := by decide +kernel
theorem dX0_init_168 : decode cX0_init 168 = .ok (.aload_n 0, 1) := by decide +kernel
theorem dX0_init_169 : decode cX0_init 169 = .ok (.dup, 1) := by decide +kernel
theorem dX0_init_170 : decode cX0_init 170 = .ok (.getfield 67, 3) := by decide +kernel
theorem dX0_init_173 : decode cX0_init 173 = .ok (.iconst 1, 1) := by decide +kernel
theorem dX0_init_174 : decode cX0_init 174 = .ok (.iadd, 1) := by decide +kernel
theorem dX0_init_175 : decode cX0_init 175 = .ok (.putfield 67, 3) := by decide +kernel
theorem dX0_init_178 : decode cX0_init 178 = .ok (.iinc 1 (-1), 3) := by decide +kernel
theorem dX0_init_181 : decode cX0_init 181 = .ok (.goto (-28), 3) := by decide +kernel
theorem dX0_init_184 : decode cX0_init 184 = .ok (.iconst 0, 1) := by decide +kernel
theorem dX0_init_185 : decode cX0_init 185 = .ok (.istore_n 1, 1) := by decide +kernel
theorem dX0_init_186 : decode cX0_init 186 = .ok (.iload_n 1, 1) := by decide +kernel
theorem dX0_init_187 : decode cX0_init 187 = .ok (.bipush 6, 2) := by decide +kernel
theorem dX0_init_189 : decode cX0_init 189 = .ok (.if_icmp .ge 16, 3) := by decide +kernel
theorem dX0_init_192 : decode cX0_init 192 = .ok (.aload_n 0, 1) := by decide +kernel
theorem dX0_init_193 : decode cX0_init 193 = .ok (.getfield 30, 3) := by decide +kernel
theorem dX0_init_196 : decode cX0_init 196 = .ok (.iload_n 1, 1) := by decide +kernel
theorem dX0_init_197 : decode cX0_init 197 = .ok (.iconst (-1), 1) := by decide +kernel
theorem dX0_init_198 : decode cX0_init 198 = .ok (.sastore, 1) := by decide +kernel
theorem dX0_init_199 : decode cX0_init 199 = .ok (.iinc 1 1, 3) := by decide +kernel
theorem dX0_init_202 : decode cX0_init 202 = .ok (.goto (-16), 3) := by decide +kernel
theorem dX0_init_205 : decode cX0_init 205 = .ok (.iconst 0, 1) := by decide +kernel
theorem dX0_init_206 : decode cX0_init 206 = .ok (.istore_n 1, 1) := by decide +kernel
theorem dX0_init_207 : decode cX0_init 207 = .ok (.iload_n 1, 1) := by decide +kernel
theorem dX0_init_208 : decode cX0_init 208 = .ok (.iconst 4, 1) := by decide +kernel
theorem dX0_init_209 : decode cX0_init 209 = .ok (.if_icmp .ge 16, 3) := by decide +kernel
theorem dX0_init_212 : decode cX0_init 212 = .ok (.aload_n 0, 1) := by decide +kernel
theorem dX0_init_213 : decode cX0_init 213 = .ok (.getfield 39, 3) := by decide +kernel
theorem dX0_init_216 : decode cX0_init 216 = .ok (.iload_n 1, 1) := by decide +kernel
theorem dX0_init_217 : decode cX0_init 217 = .ok (.iconst (-1), 1) := by decide +kernel
theorem dX0_init_218 : decode cX0_init 218 = .ok (.sastore, 1) := by decide +kernel
theorem dX0_init_219 : decode cX0_init 219 = .ok (.iinc 1 1, 3) := by decide +kernel
theorem dX0_init_222 : decode cX0_init 222 = .ok (.goto (-15), 3) := by decide +kernel
theorem dX0_init_225 : decode cX0_init 225 = .ok (.return_, 1) := by decide +kernel
theorem dX0_begin_0 : decode cX0_begin 0 = .ok (.iload_n 1, 1) := by decide +kernel
theorem dX0_begin_1 : decode cX0_begin 1 = .ok (.ifCond .lt 8, 3) := by decide +kernel
theorem dX0_begin_4 : decode cX0_begin 4 = .ok (.iload_n 1, 1) := by decide +kernel
theorem dX0_begin_5 : decode cX0_begin 5 = .ok (.iconst 3, 1) := by decide +kernel
theorem dX0_begin_6 : decode cX0_begin 6 = .ok (.if_icmp .le 5, 3) := by decide +kernel
theorem dX0_begin_9 : decode cX0_begin 9 = .ok (.iconst (-1), 1) := by decide +kernel
theorem dX0_begin_10 : decode cX0_begin 10 = .ok (.ireturn, 1) := by decide +kernel
theorem dX0_begin_11 : decode cX0_begin 11 = .ok (.aload_n 0, 1) := by decide +kernel
theorem dX0_begin_12 : decode cX0_begin 12 = .ok (.getfield 33, 3) := by decide +kernel
theorem dX0_begin_15 : decode cX0_begin 15 = .ok (.iload_n 1, 1) := by decide +kernel
theorem dX0_begin_16 : decode cX0_begin 16 = .ok (.baload, 1) := by decide +kernel
theorem dX0_begin_17 : decode cX0_begin 17 = .ok (.ifCond .eq 6, 3) := by decide +kernel
theorem dX0_begin_20 : decode cX0_begin 20 = .ok (.bipush (-2), 2) := by decide +kernel
theorem dX0_begin_22 : decode cX0_begin 22 = .ok (.ireturn, 1) := by decide +kernel
theorem dX0_begin_23 : decode cX0_begin 23 = .ok (.aload_n 0, 1) := by decide +kernel
theorem dX0_begin_24 : decode cX0_begin 24 = .ok (.getfield 33, 3) := by decide +kernel
theorem dX0_begin_27 : decode cX0_begin 27 = .ok (.iload_n 1, 1) := by decide +kernel
theorem dX0_begin_28 : decode cX0_begin 28 = .ok (.iconst 1, 1) := by decide +kernel
theorem dX0_begin_29 : decode cX0_begin 29 = .ok (.bastore, 1) := by decide +kernel
theorem dX0_begin_30 : decode cX0_begin 30 = .ok (.aload_n 0, 1) := by decide +kernel
theorem dX0_begin_31 : decode cX0_begin 31 = .ok (.getfield 36, 3) := by decide +kernel
theorem dX0_begin_34 : decode cX0_begin 34 = .ok (.iload_n 1, 1) := by decide +kernel
theorem dX0_begin_35 : decode cX0_begin 35 = .ok (.aload_n 0, 1) := by decide +kernel
theorem dX0_begin_36 : decode cX0_begin 36 = .ok (.getfield 71, 3) := by decide +kernel
theorem dX0_begin_39 : decode cX0_begin 39 = .ok (.iastore, 1) := by decide +kernel
theorem dX0_begin_40 : decode cX0_begin 40 = .ok (.aload_n 0, 1) := by decide +kernel
theorem dX0_begin_41 : decode cX0_begin 41 = .ok (.getfield 39, 3) := by decide +kernel
theorem dX0_begin_44 : decode cX0_begin 44 = .ok (.iload_n 1, 1) := by decide +kernel
theorem dX0_begin_45 : decode cX0_begin 45 = .ok (.aload_n 0, 1) := by decide +kernel
theorem dX0_begin_46 : decode cX0_begin 46 = .ok (.getfield 30, 3) := by decide +kernel
theorem dX0_begin_49 : decode cX0_begin 49 = .ok (.aload_n 0, 1) := by decide +kernel
theorem dX0_begin_50 : decode cX0_begin 50 = .ok (.getfield 71, 3) := by decide +kernel
theorem dX0_begin_53 : decode cX0_begin 53 = .ok (.bipush 6, 2) := by decide +kernel
theorem dX0_begin_55 : decode cX0_begin 55 = .ok (.irem, 1) := by decide +kernel
theorem dX0_begin_56 : decode cX0_begin 56 = .ok (.saload, 1) := by decide +kernel
theorem dX0_begin_57 : decode cX0_begin 57 = .ok (.sastore, 1) := by decide +kernel
theorem dX0_begin_58 : decode cX0_begin 58 = .ok (.aload_n 0, 1) := by decide +kernel
theorem dX0_begin_59 : decode cX0_begin 59 = .ok (.getfield 42, 3) := by decide +kernel
theorem dX0_begin_62 : decode cX0_begin 62 = .ok (.iload_n 1, 1) := by decide +kernel
theorem dX0_begin_63 : decode cX0_begin 63 = .ok (.iconst 0, 1) := by decide +kernel
theorem dX0_begin_64 : decode cX0_begin 64 = .ok (.iastore, 1) := by decide +kernel
theorem dX0_begin_65 : decode cX0_begin 65 = .ok (.aload_n 0, 1) := by decide +kernel
theorem dX0_begin_66 : decode cX0_begin 66 = .ok (.getfield 45, 3) := by decide +kernel
theorem dX0_begin_69 : decode cX0_begin 69 = .ok (.iload_n 1, 1) := by decide +kernel
theorem dX0_begin_70 : decode cX0_begin 70 = .ok (.iconst 0, 1) := by decide +kernel
theorem dX0_begin_71 : decode cX0_begin 71 = .ok (.bastore, 1) := by decide +kernel
theorem dX0_begin_72 : decode cX0_begin 72 = .ok (.aload_n 0, 1) := by decide +kernel
theorem dX0_begin_73 : decode cX0_begin 73 = .ok (.getfield 71, 3) := by decide +kernel
theorem dX0_begin_76 : decode cX0_begin 76 = .ok (.ireturn, 1) := by decide +kernel
theorem dX0_write_0 : decode cX0_write 0 = .ok (.aload_n 0, 1) := by decide +kernel
theorem dX0_write_1 : decode cX0_write 1 = .ok (.iload_n 1, 1) := by decide +kernel
theorem dX0_write_2 : decode cX0_write 2 = .ok (.iload_n 2, 1) := by decide +kernel
theorem dX0_write_3 : decode cX0_write 3 = .ok (.iload_n 3, 1) := by decide +kernel
theorem dX0_write_4 : decode cX0_write 4 = .ok (.iconst 1, 1) := by decide +kernel
theorem dX0_write_5 : decode cX0_write 5 = .ok (.invokevirtual 74, 3) := by decide +kernel
theorem dX0_write_8 : decode cX0_write 8 = .ok (.ireturn, 1) := by decide +kernel
theorem dX0_put_0 : decode cX0_put 0 = .ok (.aload_n 0, 1) := by decide +kernel
theorem dX0_put_1 : decode cX0_put 1 = .ok (.iload_n 1, 1) := by decide +kernel
theorem dX0_put_2 : decode cX0_put 2 = .ok (.iload_n 2, 1) := by decide +kernel
theorem dX0_put_3 : decode cX0_put 3 = .ok (.iload_n 2, 1) := by decide +kernel
theorem dX0_put_4 : decode cX0_put 4 = .ok (.invokevirtual 78, 3) := by decide +kernel
theorem dX0_put_7 : decode cX0_put 7 = .ok (.istore 5, 2) := by decide +kernel
theorem dX0_put_9 : decode cX0_put 9 = .ok (.iload 5, 2) := by decide +kernel
theorem dX0_put_11 : decode cX0_put 11 = .ok (.ifCond .eq 6, 3) := by decide +kernel
theorem dX0_put_14 : decode cX0_put 14 = .ok (.iload 5, 2) := by decide +kernel
theorem dX0_put_16 : decode cX0_put 16 = .ok (.ireturn, 1) := by decide +kernel
theorem dX0_put_17 : decode cX0_put 17 = .ok (.aload_n 0, 1) := by decide +kernel
theorem dX0_put_18 : decode cX0_put 18 = .ok (.iload_n 1, 1) := by decide +kernel
theorem dX0_put_19 : decode cX0_put 19 = .ok (.iload_n 2, 1) := by decide +kernel
theorem dX0_put_20 : decode cX0_put 20 = .ok (.invokevirtual 82, 3) := by decide +kernel
theorem dX0_put_23 : decode cX0_put 23 = .ok (.istore 6, 2) := by decide +kernel
theorem dX0_put_25 : decode cX0_put 25 = .ok (.iload 6, 2) := by decide +kernel
theorem dX0_put_27 : decode cX0_put 27 = .ok (.ifCond .ge 50, 3) := by decide +kernel
theorem dX0_put_30 : decode cX0_put 30 = .ok (.aload_n 0, 1) := by decide +kernel
theorem dX0_put_31 : decode cX0_put 31 = .ok (.getfield 45, 3) := by decide +kernel
theorem dX0_put_34 : decode cX0_put 34 = .ok (.iload_n 1, 1) := by decide +kernel
theorem dX0_put_35 : decode cX0_put 35 = .ok (.baload, 1) := by decide +kernel
theorem dX0_put_36 : decode cX0_put 36 = .ok (.bipush 6, 2) := by decide +kernel
theorem dX0_put_38 : decode cX0_put 38 = .ok (.if_icmp .lt 6, 3) := by decide +kernel
theorem dX0_put_41 : decode cX0_put 41 = .ok (.bipush (-4), 2) := by decide +kernel
theorem dX0_put_43 : decode cX0_put 43 = .ok (.ireturn, 1) := by decide +kernel
theorem dX0_put_44 : decode cX0_put 44 = .ok (.bipush 6, 2) := by decide +kernel
theorem dX0_put_46 : decode cX0_put 46 = .ok (.iload_n 1, 1) := by decide +kernel
theorem dX0_put_47 : decode cX0_put 47 = .ok (.imul, 1) := by decide +kernel
theorem dX0_put_48 : decode cX0_put 48 = .ok (.aload_n 0, 1) := by decide +kernel
theorem dX0_put_49 : decode cX0_put 49 = .ok (.getfield 45, 3) := by decide +kernel
theorem dX0_put_52 : decode cX0_put 52 = .ok (.iload_n 1, 1) := by decide +kernel
theorem dX0_put_53 : decode cX0_put 53 = .ok (.baload, 1) := by decide +kernel
theorem dX0_put_54 : decode cX0_put 54 = .ok (.iadd, 1) := by decide +kernel
theorem dX0_put_55 : decode cX0_put 55 = .ok (.istore 6, 2) := by decide +kernel
theorem dX0_put_57 : decode cX0_put 57 = .ok (.aload_n 0, 1) := by decide +kernel
theorem dX0_put_58 : decode cX0_put 58 = .ok (.getfield 45, 3) := by decide +kernel
theorem dX0_put_61 : decode cX0_put 61 = .ok (.iload_n 1, 1) := by decide +kernel
theorem dX0_put_62 : decode cX0_put 62 = .ok (.dup2, 1) := by decide +kernel
theorem dX0_put_63 : decode cX0_put 63 = .ok (.baload, 1) := by decide +kernel
theorem dX0_put_64 : decode cX0_put 64 = .ok (.iconst 1, 1) := by decide +kernel
theorem dX0_put_65 : decode cX0_put 65 = .ok (.iadd, 1) := by decide +kernel
theorem dX0_put_66 : decode cX0_put 66 = .ok (.i2b, 1) := by decide +kernel
theorem dX0_put_67 : decode cX0_put 67 = .ok (.bastore, 1) := by decide +kernel
theorem dX0_put_68 : decode cX0_put 68 = .ok (.aload_n 0, 1) := by decide +kernel
theorem dX0_put_69 : decode cX0_put 69 = .ok (.getfield 49, 3) := by decide +kernel
theorem dX0_put_72 : decode cX0_put 72 = .ok (.iload 6, 2) := by decide +kernel
theorem dX0_put_74 : decode cX0_put 74 = .ok (.iload_n 2, 1) := by decide +kernel
theorem dX0_put_75 : decode cX0_put 75 = .ok (.i2b, 1) := by decide +kernel
theorem dX0_put_76 : decode cX0_put 76 = .ok (.bastore, 1) := by decide +kernel
theorem dX0_put_77 : decode cX0_put 77 = .ok (.aload_n 0, 1) := by decide +kernel
theorem dX0_put_78 : decode cX0_put 78 = .ok (.getfield 52, 3) := by decide +kernel
theorem dX0_put_81 : decode cX0_put 81 = .ok (.iload 6, 2) := by decide +kernel
theorem dX0_put_83 : decode cX0_put 83 = .ok (.iload_n 3, 1) := by decide +kernel
theorem dX0_put_84 : decode cX0_put 84 = .ok (.iastore, 1) := by decide +kernel
theorem dX0_put_85 : decode cX0_put 85 = .ok (.aload_n 0, 1) := by decide +kernel
theorem dX0_put_86 : decode cX0_put 86 = .ok (.getfield 55, 3) := by decide +kernel
theorem dX0_put_89 : decode cX0_put 89 = .ok (.iload 6, 2) := by decide +kernel
theorem dX0_put_91 : decode cX0_put 91 = .ok (.iload 4, 2) := by decide +kernel
theorem dX0_put_93 : decode cX0_put 93 = .ok (.bastore, 1) := by decide +kernel
theorem dX0_put_94 : decode cX0_put 94 = .ok (.aload_n 0, 1) := by decide +kernel
theorem dX0_put_95 : decode cX0_put 95 = .ok (.getfield 45, 3) := by decide +kernel
theorem dX0_put_98 : decode cX0_put 98 = .ok (.iload_n 1, 1) := by decide +kernel
theorem dX0_put_99 : decode cX0_put 99 = .ok (.baload, 1) := by decide +kernel
theorem dX0_put_100 : decode cX0_put 100 = .ok (.ireturn, 1) := by decide +kernel
theorem dX0_check_0 : decode cX0_check 0 = .ok (.iload_n 1, 1) := by decide +kernel
theorem dX0_check_1 : decode cX0_check 1 = .ok (.ifCond .lt 23, 3) := by decide +kernel
theorem dX0_check_4 : decode cX0_check 4 = .ok (.iload_n 1, 1) := by decide +kernel
theorem dX0_check_5 : decode cX0_check 5 = .ok (.iconst 3, 1) := by decide +kernel
theorem dX0_check_6 : decode cX0_check 6 = .ok (.if_icmp .gt 18, 3) := by decide +kernel
theorem dX0_check_9 : decode cX0_check 9 = .ok (.iload_n 2, 1) := by decide +kernel
theorem dX0_check_10 : decode cX0_check 10 = .ok (.ifCond .lt 14, 3) := by decide +kernel
theorem dX0_check_13 : decode cX0_check 13 = .ok (.iload_n 3, 1) := by decide +kernel
theorem dX0_check_14 : decode cX0_check 14 = .ok (.bipush 31, 2) := by decide +kernel
theorem dX0_check_16 : decode cX0_check 16 = .ok (.if_icmp .gt 8, 3) := by decide +kernel
theorem dX0_check_19 : decode cX0_check 19 = .ok (.iload_n 2, 1) := by decide +kernel
theorem dX0_check_20 : decode cX0_check 20 = .ok (.iload_n 3, 1) := by decide +kernel
theorem dX0_check_21 : decode cX0_check 21 = .ok (.if_icmp .le 5, 3) := by decide +kernel
theorem dX0_check_24 : decode cX0_check 24 = .ok (.iconst (-1), 1) := by decide +kernel
theorem dX0_check_25 : decode cX0_check 25 = .ok (.ireturn, 1) := by decide +kernel
theorem dX0_check_26 : decode cX0_check 26 = .ok (.aload_n 0, 1) := by decide +kernel
theorem dX0_check_27 : decode cX0_check 27 = .ok (.getfield 33, 3) := by decide +kernel
theorem dX0_check_30 : decode cX0_check 30 = .ok (.iload_n 1, 1) := by decide +kernel
theorem dX0_check_31 : decode cX0_check 31 = .ok (.baload, 1) := by decide +kernel
theorem dX0_check_32 : decode cX0_check 32 = .ok (.ifCond .eq 7, 3) := by decide +kernel
theorem dX0_check_35 : decode cX0_check 35 = .ok (.iconst 0, 1) := by decide +kernel
theorem dX0_check_36 : decode cX0_check 36 = .ok (.goto 5, 3) := by decide +kernel
theorem dX0_check_39 : decode cX0_check 39 = .ok (.bipush (-3), 2) := by decide +kernel
theorem dX0_check_41 : decode cX0_check 41 = .ok (.ireturn, 1) := by decide +kernel
theorem dX0_placeOf_0 : decode cX0_placeOf 0 = .ok (.bipush 6, 2) := by decide +kernel
theorem dX0_placeOf_2 : decode cX0_placeOf 2 = .ok (.iload_n 1, 1) := by decide +kernel
theorem dX0_placeOf_3 : decode cX0_placeOf 3 = .ok (.imul, 1) := by decide +kernel
theorem dX0_placeOf_4 : decode cX0_placeOf 4 = .ok (.istore_n 3, 1) := by decide +kernel
theorem dX0_placeOf_5 : decode cX0_placeOf 5 = .ok (.iload_n 3, 1) := by decide +kernel
theorem dX0_placeOf_6 : decode cX0_placeOf 6 = .ok (.bipush 6, 2) := by decide +kernel
theorem dX0_placeOf_8 : decode cX0_placeOf 8 = .ok (.iload_n 1, 1) := by decide +kernel
theorem dX0_placeOf_9 : decode cX0_placeOf 9 = .ok (.imul, 1) := by decide +kernel
theorem dX0_placeOf_10 : decode cX0_placeOf 10 = .ok (.aload_n 0, 1) := by decide +kernel
theorem dX0_placeOf_11 : decode cX0_placeOf 11 = .ok (.getfield 45, 3) := by decide +kernel
theorem dX0_placeOf_14 : decode cX0_placeOf 14 = .ok (.iload_n 1, 1) := by decide +kernel
theorem dX0_placeOf_15 : decode cX0_placeOf 15 = .ok (.baload, 1) := by decide +kernel
theorem dX0_placeOf_16 : decode cX0_placeOf 16 = .ok (.iadd, 1) := by decide +kernel
theorem dX0_placeOf_17 : decode cX0_placeOf 17 = .ok (.if_icmp .ge 21, 3) := by decide +kernel
theorem dX0_placeOf_20 : decode cX0_placeOf 20 = .ok (.aload_n 0, 1) := by decide +kernel
theorem dX0_placeOf_21 : decode cX0_placeOf 21 = .ok (.getfield 49, 3) := by decide +kernel
theorem dX0_placeOf_24 : decode cX0_placeOf 24 = .ok (.iload_n 3, 1) := by decide +kernel
theorem dX0_placeOf_25 : decode cX0_placeOf 25 = .ok (.baload, 1) := by decide +kernel
theorem dX0_placeOf_26 : decode cX0_placeOf 26 = .ok (.iload_n 2, 1) := by decide +kernel
theorem dX0_placeOf_27 : decode cX0_placeOf 27 = .ok (.if_icmp .ne 5, 3) := by decide +kernel
theorem dX0_placeOf_30 : decode cX0_placeOf 30 = .ok (.iload_n 3, 1) := by decide +kernel
theorem dX0_placeOf_31 : decode cX0_placeOf 31 = .ok (.ireturn, 1) := by decide +kernel
theorem dX0_placeOf_32 : decode cX0_placeOf 32 = .ok (.iinc 3 1, 3) := by decide +kernel
theorem dX0_placeOf_35 : decode cX0_placeOf 35 = .ok (.goto (-30), 3) := by decide +kernel
theorem dX0_placeOf_38 : decode cX0_placeOf 38 = .ok (.iconst (-1), 1) := by decide +kernel
theorem dX0_placeOf_39 : decode cX0_placeOf 39 = .ok (.ireturn, 1) := by decide +kernel
theorem dX0_erase_0 : decode cX0_erase 0 = .ok (.aload_n 0, 1) := by decide +kernel
theorem dX0_erase_1 : decode cX0_erase 1 = .ok (.iload_n 1, 1) := by decide +kernel
theorem dX0_erase_2 : decode cX0_erase 2 = .ok (.iload_n 2, 1) := by decide +kernel
theorem dX0_erase_3 : decode cX0_erase 3 = .ok (.iconst 0, 1) := by decide +kernel
theorem dX0_erase_4 : decode cX0_erase 4 = .ok (.iconst 0, 1) := by decide +kernel
theorem dX0_erase_5 : decode cX0_erase 5 = .ok (.invokevirtual 74, 3) := by decide +kernel
theorem dX0_erase_8 : decode cX0_erase 8 = .ok (.ireturn, 1) := by decide +kernel
theorem dX0_read_0 : decode cX0_read 0 = .ok (.aload_n 0, 1) := by decide +kernel
theorem dX0_read_1 : decode cX0_read 1 = .ok (.iload_n 1, 1) := by decide +kernel
theorem dX0_read_2 : decode cX0_read 2 = .ok (.iload_n 2, 1) := by decide +kernel
theorem dX0_read_3 : decode cX0_read 3 = .ok (.iload_n 2, 1) := by decide +kernel
theorem dX0_read_4 : decode cX0_read 4 = .ok (.invokevirtual 78, 3) := by decide +kernel
theorem dX0_read_7 : decode cX0_read 7 = .ok (.istore_n 3, 1) := by decide +kernel
theorem dX0_read_8 : decode cX0_read 8 = .ok (.iload_n 3, 1) := by decide +kernel
theorem dX0_read_9 : decode cX0_read 9 = .ok (.ifCond .eq 5, 3) := by decide +kernel
theorem dX0_read_12 : decode cX0_read 12 = .ok (.iload_n 3, 1) := by decide +kernel
theorem dX0_read_13 : decode cX0_read 13 = .ok (.ireturn, 1) := by decide +kernel
theorem dX0_read_14 : decode cX0_read 14 = .ok (.aload_n 0, 1) := by decide +kernel
theorem dX0_read_15 : decode cX0_read 15 = .ok (.getfield 42, 3) := by decide +kernel
theorem dX0_read_18 : decode cX0_read 18 = .ok (.iload_n 1, 1) := by decide +kernel
theorem dX0_read_19 : decode cX0_read 19 = .ok (.dup2, 1) := by decide +kernel
theorem dX0_read_20 : decode cX0_read 20 = .ok (.iaload, 1) := by decide +kernel
theorem dX0_read_21 : decode cX0_read 21 = .ok (.iconst 1, 1) := by decide +kernel
theorem dX0_read_22 : decode cX0_read 22 = .ok (.iload_n 2, 1) := by decide +kernel
theorem dX0_read_23 : decode cX0_read 23 = .ok (.ishl, 1) := by decide +kernel
theorem dX0_read_24 : decode cX0_read 24 = .ok (.ior, 1) := by decide +kernel
theorem dX0_read_25 : decode cX0_read 25 = .ok (.iastore, 1) := by decide +kernel
theorem dX0_read_26 : decode cX0_read 26 = .ok (.aload_n 0, 1) := by decide +kernel
theorem dX0_read_27 : decode cX0_read 27 = .ok (.iload_n 1, 1) := by decide +kernel
theorem dX0_read_28 : decode cX0_read 28 = .ok (.iload_n 2, 1) := by decide +kernel
theorem dX0_read_29 : decode cX0_read 29 = .ok (.invokevirtual 86, 3) := by decide +kernel
theorem dX0_read_32 : decode cX0_read 32 = .ok (.ifCond .eq 7, 3) := by decide +kernel
theorem dX0_read_35 : decode cX0_read 35 = .ok (.iconst 1, 1) := by decide +kernel
theorem dX0_read_36 : decode cX0_read 36 = .ok (.goto 4, 3) := by decide +kernel
theorem dX0_read_39 : decode cX0_read 39 = .ok (.iconst 0, 1) := by decide +kernel
theorem dX0_read_40 : decode cX0_read 40 = .ok (.ireturn, 1) := by decide +kernel
theorem dX0_inView_0 : decode cX0_inView 0 = .ok (.aload_n 0, 1) := by decide +kernel
theorem dX0_inView_1 : decode cX0_inView 1 = .ok (.iload_n 1, 1) := by decide +kernel
theorem dX0_inView_2 : decode cX0_inView 2 = .ok (.iload_n 2, 1) := by decide +kernel
theorem dX0_inView_3 : decode cX0_inView 3 = .ok (.invokevirtual 82, 3) := by decide +kernel
theorem dX0_inView_6 : decode cX0_inView 6 = .ok (.istore_n 3, 1) := by decide +kernel
theorem dX0_inView_7 : decode cX0_inView 7 = .ok (.iload_n 3, 1) := by decide +kernel
theorem dX0_inView_8 : decode cX0_inView 8 = .ok (.ifCond .lt 10, 3) := by decide +kernel
theorem dX0_inView_11 : decode cX0_inView 11 = .ok (.aload_n 0, 1) := by decide +kernel
theorem dX0_inView_12 : decode cX0_inView 12 = .ok (.getfield 55, 3) := by decide +kernel
theorem dX0_inView_15 : decode cX0_inView 15 = .ok (.iload_n 3, 1) := by decide +kernel
theorem dX0_inView_16 : decode cX0_inView 16 = .ok (.baload, 1) := by decide +kernel
theorem dX0_inView_17 : decode cX0_inView 17 = .ok (.ireturn, 1) := by decide +kernel
theorem dX0_inView_18 : decode cX0_inView 18 = .ok (.aload_n 0, 1) := by decide +kernel
theorem dX0_inView_19 : decode cX0_inView 19 = .ok (.aload_n 0, 1) := by decide +kernel
theorem dX0_inView_20 : decode cX0_inView 20 = .ok (.getfield 39, 3) := by decide +kernel
theorem dX0_inView_23 : decode cX0_inView 23 = .ok (.iload_n 1, 1) := by decide +kernel
theorem dX0_inView_24 : decode cX0_inView 24 = .ok (.saload, 1) := by decide +kernel
theorem dX0_inView_25 : decode cX0_inView 25 = .ok (.iload_n 2, 1) := by decide +kernel
theorem dX0_inView_26 : decode cX0_inView 26 = .ok (.invokevirtual 90, 3) := by decide +kernel
theorem dX0_inView_29 : decode cX0_inView 29 = .ok (.istore 4, 2) := by decide +kernel
theorem dX0_inView_31 : decode cX0_inView 31 = .ok (.iload 4, 2) := by decide +kernel
theorem dX0_inView_33 : decode cX0_inView 33 = .ok (.ifCond .lt 17, 3) := by decide +kernel
theorem dX0_inView_36 : decode cX0_inView 36 = .ok (.aload_n 0, 1) := by decide +kernel
theorem dX0_inView_37 : decode cX0_inView 37 = .ok (.getfield 17, 3) := by decide +kernel
theorem dX0_inView_40 : decode cX0_inView 40 = .ok (.iload 4, 2) := by decide +kernel
theorem dX0_inView_42 : decode cX0_inView 42 = .ok (.baload, 1) := by decide +kernel
theorem dX0_inView_43 : decode cX0_inView 43 = .ok (.ifCond .eq 7, 3) := by decide +kernel
theorem dX0_inView_46 : decode cX0_inView 46 = .ok (.iconst 1, 1) := by decide +kernel
theorem dX0_inView_47 : decode cX0_inView 47 = .ok (.goto 4, 3) := by decide +kernel
theorem dX0_inView_50 : decode cX0_inView 50 = .ok (.iconst 0, 1) := by decide +kernel
theorem dX0_inView_51 : decode cX0_inView 51 = .ok (.ireturn, 1) := by decide +kernel
theorem dX0_leafOf_0 : decode cX0_leafOf 0 = .ok (.iload_n 1, 1) := by decide +kernel
theorem dX0_leafOf_1 : decode cX0_leafOf 1 = .ok (.istore_n 3, 1) := by decide +kernel
theorem dX0_leafOf_2 : decode cX0_leafOf 2 = .ok (.iconst 4, 1) := by decide +kernel
theorem dX0_leafOf_3 : decode cX0_leafOf 3 = .ok (.istore 4, 2) := by decide +kernel
theorem dX0_leafOf_5 : decode cX0_leafOf 5 = .ok (.iload 4, 2) := by decide +kernel
theorem dX0_leafOf_7 : decode cX0_leafOf 7 = .ok (.ifCond .lt 29, 3) := by decide +kernel
theorem dX0_leafOf_10 : decode cX0_leafOf 10 = .ok (.iload_n 3, 1) := by decide +kernel
theorem dX0_leafOf_11 : decode cX0_leafOf 11 = .ok (.ifCond .lt 25, 3) := by decide +kernel
theorem dX0_leafOf_14 : decode cX0_leafOf 14 = .ok (.aload_n 0, 1) := by decide +kernel
theorem dX0_leafOf_15 : decode cX0_leafOf 15 = .ok (.getfield 7, 3) := by decide +kernel
theorem dX0_leafOf_18 : decode cX0_leafOf 18 = .ok (.iconst 2, 1) := by decide +kernel
theorem dX0_leafOf_19 : decode cX0_leafOf 19 = .ok (.iload_n 3, 1) := by decide +kernel
theorem dX0_leafOf_20 : decode cX0_leafOf 20 = .ok (.imul, 1) := by decide +kernel
theorem dX0_leafOf_21 : decode cX0_leafOf 21 = .ok (.iload_n 2, 1) := by decide +kernel
theorem dX0_leafOf_22 : decode cX0_leafOf 22 = .ok (.iload 4, 2) := by decide +kernel
theorem dX0_leafOf_24 : decode cX0_leafOf 24 = .ok (.ishr, 1) := by decide +kernel
theorem dX0_leafOf_25 : decode cX0_leafOf 25 = .ok (.iconst 1, 1) := by decide +kernel
theorem dX0_leafOf_26 : decode cX0_leafOf 26 = .ok (.iand, 1) := by decide +kernel
theorem dX0_leafOf_27 : decode cX0_leafOf 27 = .ok (.iadd, 1) := by decide +kernel
theorem dX0_leafOf_28 : decode cX0_leafOf 28 = .ok (.saload, 1) := by decide +kernel
theorem dX0_leafOf_29 : decode cX0_leafOf 29 = .ok (.istore_n 3, 1) := by decide +kernel
theorem dX0_leafOf_30 : decode cX0_leafOf 30 = .ok (.iinc 4 (-1), 3) := by decide +kernel
theorem dX0_leafOf_33 : decode cX0_leafOf 33 = .ok (.goto (-28), 3) := by decide +kernel
theorem dX0_leafOf_36 : decode cX0_leafOf 36 = .ok (.iload_n 3, 1) := by decide +kernel
theorem dX0_leafOf_37 : decode cX0_leafOf 37 = .ok (.ireturn, 1) := by decide +kernel
theorem dX0_peek_0 : decode cX0_peek 0 = .ok (.aload_n 0, 1) := by decide +kernel
theorem dX0_peek_1 : decode cX0_peek 1 = .ok (.iload_n 1, 1) := by decide +kernel
theorem dX0_peek_2 : decode cX0_peek 2 = .ok (.iload_n 2, 1) := by decide +kernel
theorem dX0_peek_3 : decode cX0_peek 3 = .ok (.iload_n 2, 1) := by decide +kernel
theorem dX0_peek_4 : decode cX0_peek 4 = .ok (.invokevirtual 78, 3) := by decide +kernel
theorem dX0_peek_7 : decode cX0_peek 7 = .ok (.ifCond .eq 5, 3) := by decide +kernel
theorem dX0_peek_10 : decode cX0_peek 10 = .ok (.iconst 0, 1) := by decide +kernel
theorem dX0_peek_11 : decode cX0_peek 11 = .ok (.ireturn, 1) := by decide +kernel
theorem dX0_peek_12 : decode cX0_peek 12 = .ok (.aload_n 0, 1) := by decide +kernel
theorem dX0_peek_13 : decode cX0_peek 13 = .ok (.iload_n 1, 1) := by decide +kernel
theorem dX0_peek_14 : decode cX0_peek 14 = .ok (.iload_n 2, 1) := by decide +kernel
theorem dX0_peek_15 : decode cX0_peek 15 = .ok (.invokevirtual 82, 3) := by decide +kernel
theorem dX0_peek_18 : decode cX0_peek 18 = .ok (.istore_n 3, 1) := by decide +kernel
theorem dX0_peek_19 : decode cX0_peek 19 = .ok (.iload_n 3, 1) := by decide +kernel
theorem dX0_peek_20 : decode cX0_peek 20 = .ok (.ifCond .lt 10, 3) := by decide +kernel
theorem dX0_peek_23 : decode cX0_peek 23 = .ok (.aload_n 0, 1) := by decide +kernel
theorem dX0_peek_24 : decode cX0_peek 24 = .ok (.getfield 52, 3) := by decide +kernel
theorem dX0_peek_27 : decode cX0_peek 27 = .ok (.iload_n 3, 1) := by decide +kernel
theorem dX0_peek_28 : decode cX0_peek 28 = .ok (.iaload, 1) := by decide +kernel
theorem dX0_peek_29 : decode cX0_peek 29 = .ok (.ireturn, 1) := by decide +kernel
theorem dX0_peek_30 : decode cX0_peek 30 = .ok (.aload_n 0, 1) := by decide +kernel
theorem dX0_peek_31 : decode cX0_peek 31 = .ok (.aload_n 0, 1) := by decide +kernel
theorem dX0_peek_32 : decode cX0_peek 32 = .ok (.getfield 39, 3) := by decide +kernel
theorem dX0_peek_35 : decode cX0_peek 35 = .ok (.iload_n 1, 1) := by decide +kernel
theorem dX0_peek_36 : decode cX0_peek 36 = .ok (.saload, 1) := by decide +kernel
theorem dX0_peek_37 : decode cX0_peek 37 = .ok (.iload_n 2, 1) := by decide +kernel
theorem dX0_peek_38 : decode cX0_peek 38 = .ok (.invokevirtual 90, 3) := by decide +kernel
theorem dX0_peek_41 : decode cX0_peek 41 = .ok (.istore 4, 2) := by decide +kernel
theorem dX0_peek_43 : decode cX0_peek 43 = .ok (.iload 4, 2) := by decide +kernel
theorem dX0_peek_45 : decode cX0_peek 45 = .ok (.ifCond .lt 23, 3) := by decide +kernel
theorem dX0_peek_48 : decode cX0_peek 48 = .ok (.aload_n 0, 1) := by decide +kernel
theorem dX0_peek_49 : decode cX0_peek 49 = .ok (.getfield 17, 3) := by decide +kernel
theorem dX0_peek_52 : decode cX0_peek 52 = .ok (.iload 4, 2) := by decide +kernel
theorem dX0_peek_54 : decode cX0_peek 54 = .ok (.baload, 1) := by decide +kernel
theorem dX0_peek_55 : decode cX0_peek 55 = .ok (.ifCond .eq 13, 3) := by decide +kernel
theorem dX0_peek_58 : decode cX0_peek 58 = .ok (.aload_n 0, 1) := by decide +kernel
theorem dX0_peek_59 : decode cX0_peek 59 = .ok (.getfield 13, 3) := by decide +kernel
theorem dX0_peek_62 : decode cX0_peek 62 = .ok (.iload 4, 2) := by decide +kernel
theorem dX0_peek_64 : decode cX0_peek 64 = .ok (.iaload, 1) := by decide +kernel
theorem dX0_peek_65 : decode cX0_peek 65 = .ok (.goto 4, 3) := by decide +kernel
theorem dX0_peek_68 : decode cX0_peek 68 = .ok (.iconst 0, 1) := by decide +kernel
theorem dX0_peek_69 : decode cX0_peek 69 = .ok (.ireturn, 1) := by decide +kernel
theorem dX0_countRange_0 : decode cX0_countRange 0 = .ok (.aload_n 0, 1) := by decide +kernel
theorem dX0_countRange_1 : decode cX0_countRange 1 = .ok (.iload_n 1, 1) := by decide +kernel
theorem dX0_countRange_2 : decode cX0_countRange 2 = .ok (.iload_n 2, 1) := by decide +kernel
theorem dX0_countRange_3 : decode cX0_countRange 3 = .ok (.iload_n 3, 1) := by decide +kernel
theorem dX0_countRange_4 : decode cX0_countRange 4 = .ok (.invokevirtual 78, 3) := by decide +kernel
theorem dX0_countRange_7 : decode cX0_countRange 7 = .ok (.istore 4, 2) := by decide +kernel
theorem dX0_countRange_9 : decode cX0_countRange 9 = .ok (.iload 4, 2) := by decide +kernel
theorem dX0_countRange_11 : decode cX0_countRange 11 = .ok (.ifCond .eq 6, 3) := by decide +kernel
theorem dX0_countRange_14 : decode cX0_countRange 14 = .ok (.iload 4, 2) := by decide +kernel
theorem dX0_countRange_16 : decode cX0_countRange 16 = .ok (.ireturn, 1) := by decide +kernel
theorem dX0_countRange_17 : decode cX0_countRange 17 = .ok (.iconst 0, 1) := by decide +kernel
theorem dX0_countRange_18 : decode cX0_countRange 18 = .ok (.istore 5, 2) := by decide +kernel
theorem dX0_countRange_20 : decode cX0_countRange 20 = .ok (.iload_n 2, 1) := by decide +kernel
theorem dX0_countRange_21 : decode cX0_countRange 21 = .ok (.istore 6, 2) := by decide +kernel
theorem dX0_countRange_23 : decode cX0_countRange 23 = .ok (.iload 6, 2) := by decide +kernel
theorem dX0_countRange_25 : decode cX0_countRange 25 = .ok (.iload_n 3, 1) := by decide +kernel
theorem dX0_countRange_26 : decode cX0_countRange 26 = .ok (.if_icmp .gt 35, 3) := by decide +kernel
theorem dX0_countRange_29 : decode cX0_countRange 29 = .ok (.aload_n 0, 1) := by decide +kernel
theorem dX0_countRange_30 : decode cX0_countRange 30 = .ok (.getfield 42, 3) := by decide +kernel
theorem dX0_countRange_33 : decode cX0_countRange 33 = .ok (.iload_n 1, 1) := by decide +kernel
theorem dX0_countRange_34 : decode cX0_countRange 34 = .ok (.dup2, 1) := by decide +kernel
theorem dX0_countRange_35 : decode cX0_countRange 35 = .ok (.iaload, 1) := by decide +kernel
theorem dX0_countRange_36 : decode cX0_countRange 36 = .ok (.iconst 1, 1) := by decide +kernel
theorem dX0_countRange_37 : decode cX0_countRange 37 = .ok (.iload 6, 2) := by decide +kernel
theorem dX0_countRange_39 : decode cX0_countRange 39 = .ok (.ishl, 1) := by decide +kernel
theorem dX0_countRange_40 : decode cX0_countRange 40 = .ok (.ior, 1) := by decide +kernel
theorem dX0_countRange_41 : decode cX0_countRange 41 = .ok (.iastore, 1) := by decide +kernel
theorem dX0_countRange_42 : decode cX0_countRange 42 = .ok (.aload_n 0, 1) := by decide +kernel
theorem dX0_countRange_43 : decode cX0_countRange 43 = .ok (.iload_n 1, 1) := by decide +kernel
theorem dX0_countRange_44 : decode cX0_countRange 44 = .ok (.iload 6, 2) := by decide +kernel
theorem dX0_countRange_46 : decode cX0_countRange 46 = .ok (.invokevirtual 86, 3) := by decide +kernel
theorem dX0_countRange_49 : decode cX0_countRange 49 = .ok (.ifCond .eq 6, 3) := by decide +kernel
theorem dX0_countRange_52 : decode cX0_countRange 52 = .ok (.iinc 5 1, 3) := by decide +kernel
theorem dX0_countRange_55 : decode cX0_countRange 55 = .ok (.iinc 6 1, 3) := by decide +kernel
theorem dX0_countRange_58 : decode cX0_countRange 58 = .ok (.goto (-35), 3) := by decide +kernel
theorem dX0_countRange_61 : decode cX0_countRange 61 = .ok (.iload 5, 2) := by decide +kernel
theorem dX0_countRange_63 : decode cX0_countRange 63 = .ok (.ireturn, 1) := by decide +kernel
theorem dX0_commit_0 : decode cX0_commit 0 = .ok (.aload_n 0, 1) := by decide +kernel
theorem dX0_commit_1 : decode cX0_commit 1 = .ok (.iload_n 1, 1) := by decide +kernel
theorem dX0_commit_2 : decode cX0_commit 2 = .ok (.iconst 0, 1) := by decide +kernel
theorem dX0_commit_3 : decode cX0_commit 3 = .ok (.iconst 0, 1) := by decide +kernel
theorem dX0_commit_4 : decode cX0_commit 4 = .ok (.invokevirtual 78, 3) := by decide +kernel
theorem dX0_commit_7 : decode cX0_commit 7 = .ok (.istore_n 2, 1) := by decide +kernel
theorem dX0_commit_8 : decode cX0_commit 8 = .ok (.iload_n 2, 1) := by decide +kernel
theorem dX0_commit_9 : decode cX0_commit 9 = .ok (.ifCond .eq 5, 3) := by decide +kernel
theorem dX0_commit_12 : decode cX0_commit 12 = .ok (.iload_n 2, 1) := by decide +kernel
theorem dX0_commit_13 : decode cX0_commit 13 = .ok (.ireturn, 1) := by decide +kernel
theorem dX0_commit_14 : decode cX0_commit 14 = .ok (.aload_n 0, 1) := by decide +kernel
theorem dX0_commit_15 : decode cX0_commit 15 = .ok (.getfield 33, 3) := by decide +kernel
theorem dX0_commit_18 : decode cX0_commit 18 = .ok (.iload_n 1, 1) := by decide +kernel
theorem dX0_commit_19 : decode cX0_commit 19 = .ok (.iconst 0, 1) := by decide +kernel
theorem dX0_commit_20 : decode cX0_commit 20 = .ok (.bastore, 1) := by decide +kernel
theorem dX0_commit_21 : decode cX0_commit 21 = .ok (.aload_n 0, 1) := by decide +kernel
theorem dX0_commit_22 : decode cX0_commit 22 = .ok (.getfield 30, 3) := by decide +kernel
theorem dX0_commit_25 : decode cX0_commit 25 = .ok (.aload_n 0, 1) := by decide +kernel
theorem dX0_commit_26 : decode cX0_commit 26 = .ok (.getfield 71, 3) := by decide +kernel
theorem dX0_commit_29 : decode cX0_commit 29 = .ok (.bipush 6, 2) := by decide +kernel
theorem dX0_commit_31 : decode cX0_commit 31 = .ok (.irem, 1) := by decide +kernel
theorem dX0_commit_32 : decode cX0_commit 32 = .ok (.saload, 1) := by decide +kernel
theorem dX0_commit_33 : decode cX0_commit 33 = .ok (.istore_n 3, 1) := by decide +kernel
theorem dX0_commit_34 : decode cX0_commit 34 = .ok (.aload_n 0, 1) := by decide +kernel
theorem dX0_commit_35 : decode cX0_commit 35 = .ok (.iload_n 3, 1) := by decide +kernel
theorem dX0_commit_36 : decode cX0_commit 36 = .ok (.aload_n 0, 1) := by decide +kernel
theorem dX0_commit_37 : decode cX0_commit 37 = .ok (.getfield 36, 3) := by decide +kernel
theorem dX0_commit_40 : decode cX0_commit 40 = .ok (.iload_n 1, 1) := by decide +kernel
theorem dX0_commit_41 : decode cX0_commit 41 = .ok (.iaload, 1) := by decide +kernel
theorem dX0_commit_42 : decode cX0_commit 42 = .ok (.aload_n 0, 1) := by decide +kernel
theorem dX0_commit_43 : decode cX0_commit 43 = .ok (.getfield 42, 3) := by decide +kernel
theorem dX0_commit_46 : decode cX0_commit 46 = .ok (.iload_n 1, 1) := by decide +kernel
theorem dX0_commit_47 : decode cX0_commit 47 = .ok (.iaload, 1) := by decide +kernel
theorem dX0_commit_48 : decode cX0_commit 48 = .ok (.invokevirtual 93, 3) := by decide +kernel
theorem dX0_commit_51 : decode cX0_commit 51 = .ok (.ifCond .eq 13, 3) := by decide +kernel
theorem dX0_commit_54 : decode cX0_commit 54 = .ok (.aload_n 0, 1) := by decide +kernel
theorem dX0_commit_55 : decode cX0_commit 55 = .ok (.getfield 39, 3) := by decide +kernel
theorem dX0_commit_58 : decode cX0_commit 58 = .ok (.iload_n 1, 1) := by decide +kernel
theorem dX0_commit_59 : decode cX0_commit 59 = .ok (.iconst (-1), 1) := by decide +kernel
theorem dX0_commit_60 : decode cX0_commit 60 = .ok (.sastore, 1) := by decide +kernel
theorem dX0_commit_61 : decode cX0_commit 61 = .ok (.bipush (-5), 2) := by decide +kernel
theorem dX0_commit_63 : decode cX0_commit 63 = .ok (.ireturn, 1) := by decide +kernel
theorem dX0_commit_64 : decode cX0_commit 64 = .ok (.aload_n 0, 1) := by decide +kernel
theorem dX0_commit_65 : decode cX0_commit 65 = .ok (.getfield 39, 3) := by decide +kernel
theorem dX0_commit_68 : decode cX0_commit 68 = .ok (.iload_n 1, 1) := by decide +kernel
theorem dX0_commit_69 : decode cX0_commit 69 = .ok (.iconst (-1), 1) := by decide +kernel
theorem dX0_commit_70 : decode cX0_commit 70 = .ok (.sastore, 1) := by decide +kernel
theorem dX0_commit_71 : decode cX0_commit 71 = .ok (.aload_n 0, 1) := by decide +kernel
theorem dX0_commit_72 : decode cX0_commit 72 = .ok (.dup, 1) := by decide +kernel
theorem dX0_commit_73 : decode cX0_commit 73 = .ok (.getfield 71, 3) := by decide +kernel
theorem dX0_commit_76 : decode cX0_commit 76 = .ok (.iconst 1, 1) := by decide +kernel
theorem dX0_commit_77 : decode cX0_commit 77 = .ok (.iadd, 1) := by decide +kernel
theorem dX0_commit_78 : decode cX0_commit 78 = .ok (.putfield 71, 3) := by decide +kernel
theorem dX0_commit_81 : decode cX0_commit 81 = .ok (.aload_n 0, 1) := by decide +kernel
theorem dX0_commit_82 : decode cX0_commit 82 = .ok (.getfield 30, 3) := by decide +kernel
theorem dX0_commit_85 : decode cX0_commit 85 = .ok (.aload_n 0, 1) := by decide +kernel
theorem dX0_commit_86 : decode cX0_commit 86 = .ok (.getfield 71, 3) := by decide +kernel
theorem dX0_commit_89 : decode cX0_commit 89 = .ok (.bipush 6, 2) := by decide +kernel
theorem dX0_commit_91 : decode cX0_commit 91 = .ok (.irem, 1) := by decide +kernel
theorem dX0_commit_92 : decode cX0_commit 92 = .ok (.iload_n 3, 1) := by decide +kernel
theorem dX0_commit_93 : decode cX0_commit 93 = .ok (.i2s, 1) := by decide +kernel
end
section
set_option maxRecDepth 100000
theorem dX0_commit_94 : decode cX0_commit 94 = .ok (.sastore, 1) := by decide +kernel
theorem dX0_commit_95 : decode cX0_commit 95 = .ok (.aload_n 0, 1) := by decide +kernel
theorem dX0_commit_96 : decode cX0_commit 96 = .ok (.getfield 67, 3) := by decide +kernel
theorem dX0_commit_99 : decode cX0_commit 99 = .ok (.bipush 36, 2) := by decide +kernel
theorem dX0_commit_101 : decode cX0_commit 101 = .ok (.if_icmp .ge 7, 3) := by decide +kernel
theorem dX0_commit_104 : decode cX0_commit 104 = .ok (.aload_n 0, 1) := by decide +kernel
theorem dX0_commit_105 : decode cX0_commit 105 = .ok (.invokevirtual 96, 3) := by decide +kernel
theorem dX0_commit_108 : decode cX0_commit 108 = .ok (.bipush 6, 2) := by decide +kernel
theorem dX0_commit_110 : decode cX0_commit 110 = .ok (.iload_n 1, 1) := by decide +kernel
theorem dX0_commit_111 : decode cX0_commit 111 = .ok (.imul, 1) := by decide +kernel
theorem dX0_commit_112 : decode cX0_commit 112 = .ok (.istore 4, 2) := by decide +kernel
theorem dX0_commit_114 : decode cX0_commit 114 = .ok (.iload 4, 2) := by decide +kernel
theorem dX0_commit_116 : decode cX0_commit 116 = .ok (.bipush 6, 2) := by decide +kernel
theorem dX0_commit_118 : decode cX0_commit 118 = .ok (.iload_n 1, 1) := by decide +kernel
theorem dX0_commit_119 : decode cX0_commit 119 = .ok (.imul, 1) := by decide +kernel
theorem dX0_commit_120 : decode cX0_commit 120 = .ok (.aload_n 0, 1) := by decide +kernel
theorem dX0_commit_121 : decode cX0_commit 121 = .ok (.getfield 45, 3) := by decide +kernel
theorem dX0_commit_124 : decode cX0_commit 124 = .ok (.iload_n 1, 1) := by decide +kernel
theorem dX0_commit_125 : decode cX0_commit 125 = .ok (.baload, 1) := by decide +kernel
theorem dX0_commit_126 : decode cX0_commit 126 = .ok (.iadd, 1) := by decide +kernel
theorem dX0_commit_127 : decode cX0_commit 127 = .ok (.if_icmp .ge 40, 3) := by decide +kernel
theorem dX0_commit_130 : decode cX0_commit 130 = .ok (.aload_n 0, 1) := by decide +kernel
theorem dX0_commit_131 : decode cX0_commit 131 = .ok (.getfield 30, 3) := by decide +kernel
theorem dX0_commit_134 : decode cX0_commit 134 = .ok (.aload_n 0, 1) := by decide +kernel
theorem dX0_commit_135 : decode cX0_commit 135 = .ok (.getfield 71, 3) := by decide +kernel
theorem dX0_commit_138 : decode cX0_commit 138 = .ok (.bipush 6, 2) := by decide +kernel
theorem dX0_commit_140 : decode cX0_commit 140 = .ok (.irem, 1) := by decide +kernel
theorem dX0_commit_141 : decode cX0_commit 141 = .ok (.aload_n 0, 1) := by decide +kernel
theorem dX0_commit_142 : decode cX0_commit 142 = .ok (.aload_n 0, 1) := by decide +kernel
theorem dX0_commit_143 : decode cX0_commit 143 = .ok (.getfield 30, 3) := by decide +kernel
theorem dX0_commit_146 : decode cX0_commit 146 = .ok (.aload_n 0, 1) := by decide +kernel
theorem dX0_commit_147 : decode cX0_commit 147 = .ok (.getfield 71, 3) := by decide +kernel
theorem dX0_commit_150 : decode cX0_commit 150 = .ok (.bipush 6, 2) := by decide +kernel
theorem dX0_commit_152 : decode cX0_commit 152 = .ok (.irem, 1) := by decide +kernel
theorem dX0_commit_153 : decode cX0_commit 153 = .ok (.saload, 1) := by decide +kernel
theorem dX0_commit_154 : decode cX0_commit 154 = .ok (.iload 4, 2) := by decide +kernel
theorem dX0_commit_156 : decode cX0_commit 156 = .ok (.invokevirtual 99, 3) := by decide +kernel
theorem dX0_commit_159 : decode cX0_commit 159 = .ok (.i2s, 1) := by decide +kernel
theorem dX0_commit_160 : decode cX0_commit 160 = .ok (.sastore, 1) := by decide +kernel
theorem dX0_commit_161 : decode cX0_commit 161 = .ok (.iinc 4 1, 3) := by decide +kernel
theorem dX0_commit_164 : decode cX0_commit 164 = .ok (.goto (-50), 3) := by decide +kernel
theorem dX0_commit_167 : decode cX0_commit 167 = .ok (.aload_n 0, 1) := by decide +kernel
theorem dX0_commit_168 : decode cX0_commit 168 = .ok (.getfield 71, 3) := by decide +kernel
theorem dX0_commit_171 : decode cX0_commit 171 = .ok (.ireturn, 1) := by decide +kernel
theorem dX0_changedSince_0 : decode cX0_changedSince 0 = .ok (.iconst 0, 1) := by decide +kernel
theorem dX0_changedSince_1 : decode cX0_changedSince 1 = .ok (.istore 4, 2) := by decide +kernel
theorem dX0_changedSince_3 : decode cX0_changedSince 3 = .ok (.aload_n 0, 1) := by decide +kernel
theorem dX0_changedSince_4 : decode cX0_changedSince 4 = .ok (.iconst 0, 1) := by decide +kernel
theorem dX0_changedSince_5 : decode cX0_changedSince 5 = .ok (.putfield 109, 3) := by decide +kernel
theorem dX0_changedSince_8 : decode cX0_changedSince 8 = .ok (.aload_n 0, 1) := by decide +kernel
theorem dX0_changedSince_9 : decode cX0_changedSince 9 = .ok (.iload_n 1, 1) := by decide +kernel
theorem dX0_changedSince_10 : decode cX0_changedSince 10 = .ok (.iconst 0, 1) := by decide +kernel
theorem dX0_changedSince_11 : decode cX0_changedSince 11 = .ok (.bipush 32, 2) := by decide +kernel
theorem dX0_changedSince_13 : decode cX0_changedSince 13 = .ok (.invokevirtual 112, 3) := by decide +kernel
theorem dX0_changedSince_16 : decode cX0_changedSince 16 = .ok (.aload_n 0, 1) := by decide +kernel
theorem dX0_changedSince_17 : decode cX0_changedSince 17 = .ok (.getfield 109, 3) := by decide +kernel
theorem dX0_changedSince_20 : decode cX0_changedSince 20 = .ok (.ifCond .le 149, 3) := by decide +kernel
theorem dX0_changedSince_23 : decode cX0_changedSince 23 = .ok (.aload_n 0, 1) := by decide +kernel
theorem dX0_changedSince_24 : decode cX0_changedSince 24 = .ok (.dup, 1) := by decide +kernel
theorem dX0_changedSince_25 : decode cX0_changedSince 25 = .ok (.getfield 109, 3) := by decide +kernel
theorem dX0_changedSince_28 : decode cX0_changedSince 28 = .ok (.iconst 1, 1) := by decide +kernel
theorem dX0_changedSince_29 : decode cX0_changedSince 29 = .ok (.isub, 1) := by decide +kernel
theorem dX0_changedSince_30 : decode cX0_changedSince 30 = .ok (.putfield 109, 3) := by decide +kernel
theorem dX0_changedSince_33 : decode cX0_changedSince 33 = .ok (.aload_n 0, 1) := by decide +kernel
theorem dX0_changedSince_34 : decode cX0_changedSince 34 = .ok (.getfield 58, 3) := by decide +kernel
theorem dX0_changedSince_37 : decode cX0_changedSince 37 = .ok (.aload_n 0, 1) := by decide +kernel
theorem dX0_changedSince_38 : decode cX0_changedSince 38 = .ok (.getfield 109, 3) := by decide +kernel
theorem dX0_changedSince_41 : decode cX0_changedSince 41 = .ok (.saload, 1) := by decide +kernel
theorem dX0_changedSince_42 : decode cX0_changedSince 42 = .ok (.istore 5, 2) := by decide +kernel
theorem dX0_changedSince_44 : decode cX0_changedSince 44 = .ok (.aload_n 0, 1) := by decide +kernel
theorem dX0_changedSince_45 : decode cX0_changedSince 45 = .ok (.getfield 61, 3) := by decide +kernel
theorem dX0_changedSince_48 : decode cX0_changedSince 48 = .ok (.aload_n 0, 1) := by decide +kernel
theorem dX0_changedSince_49 : decode cX0_changedSince 49 = .ok (.getfield 109, 3) := by decide +kernel
theorem dX0_changedSince_52 : decode cX0_changedSince 52 = .ok (.baload, 1) := by decide +kernel
theorem dX0_changedSince_53 : decode cX0_changedSince 53 = .ok (.istore 6, 2) := by decide +kernel
theorem dX0_changedSince_55 : decode cX0_changedSince 55 = .ok (.aload_n 0, 1) := by decide +kernel
theorem dX0_changedSince_56 : decode cX0_changedSince 56 = .ok (.getfield 64, 3) := by decide +kernel
theorem dX0_changedSince_59 : decode cX0_changedSince 59 = .ok (.aload_n 0, 1) := by decide +kernel
theorem dX0_changedSince_60 : decode cX0_changedSince 60 = .ok (.getfield 109, 3) := by decide +kernel
theorem dX0_changedSince_63 : decode cX0_changedSince 63 = .ok (.baload, 1) := by decide +kernel
theorem dX0_changedSince_64 : decode cX0_changedSince 64 = .ok (.istore 7, 2) := by decide +kernel
theorem dX0_changedSince_66 : decode cX0_changedSince 66 = .ok (.iload 7, 2) := by decide +kernel
theorem dX0_changedSince_68 : decode cX0_changedSince 68 = .ok (.bipush 32, 2) := by decide +kernel
theorem dX0_changedSince_70 : decode cX0_changedSince 70 = .ok (.if_icmp .ne 7, 3) := by decide +kernel
theorem dX0_changedSince_73 : decode cX0_changedSince 73 = .ok (.iload_n 3, 1) := by decide +kernel
theorem dX0_changedSince_74 : decode cX0_changedSince 74 = .ok (.goto 14, 3) := by decide +kernel
theorem dX0_changedSince_77 : decode cX0_changedSince 77 = .ok (.iload_n 3, 1) := by decide +kernel
theorem dX0_changedSince_78 : decode cX0_changedSince 78 = .ok (.iload 6, 2) := by decide +kernel
theorem dX0_changedSince_80 : decode cX0_changedSince 80 = .ok (.iushr, 1) := by decide +kernel
theorem dX0_changedSince_81 : decode cX0_changedSince 81 = .ok (.iconst 1, 1) := by decide +kernel
theorem dX0_changedSince_82 : decode cX0_changedSince 82 = .ok (.iload 7, 2) := by decide +kernel
theorem dX0_changedSince_84 : decode cX0_changedSince 84 = .ok (.ishl, 1) := by decide +kernel
theorem dX0_changedSince_85 : decode cX0_changedSince 85 = .ok (.iconst 1, 1) := by decide +kernel
theorem dX0_changedSince_86 : decode cX0_changedSince 86 = .ok (.isub, 1) := by decide +kernel
theorem dX0_changedSince_87 : decode cX0_changedSince 87 = .ok (.iand, 1) := by decide +kernel
theorem dX0_changedSince_88 : decode cX0_changedSince 88 = .ok (.istore 8, 2) := by decide +kernel
theorem dX0_changedSince_90 : decode cX0_changedSince 90 = .ok (.aload_n 0, 1) := by decide +kernel
theorem dX0_changedSince_91 : decode cX0_changedSince 91 = .ok (.getfield 21, 3) := by decide +kernel
theorem dX0_changedSince_94 : decode cX0_changedSince 94 = .ok (.iload 5, 2) := by decide +kernel
theorem dX0_changedSince_96 : decode cX0_changedSince 96 = .ok (.iaload, 1) := by decide +kernel
theorem dX0_changedSince_97 : decode cX0_changedSince 97 = .ok (.iload_n 2, 1) := by decide +kernel
theorem dX0_changedSince_98 : decode cX0_changedSince 98 = .ok (.if_icmp .le (-82), 3) := by decide +kernel
theorem dX0_changedSince_101 : decode cX0_changedSince 101 = .ok (.iload 8, 2) := by decide +kernel
theorem dX0_changedSince_103 : decode cX0_changedSince 103 = .ok (.ifCond .ne 6, 3) := by decide +kernel
theorem dX0_changedSince_106 : decode cX0_changedSince 106 = .ok (.goto (-90), 3) := by decide +kernel
theorem dX0_changedSince_109 : decode cX0_changedSince 109 = .ok (.iload 7, 2) := by decide +kernel
theorem dX0_changedSince_111 : decode cX0_changedSince 111 = .ok (.iconst 1, 1) := by decide +kernel
theorem dX0_changedSince_112 : decode cX0_changedSince 112 = .ok (.if_icmp .ne 9, 3) := by decide +kernel
theorem dX0_changedSince_115 : decode cX0_changedSince 115 = .ok (.iinc 4 1, 3) := by decide +kernel
theorem dX0_changedSince_118 : decode cX0_changedSince 118 = .ok (.goto (-102), 3) := by decide +kernel
theorem dX0_changedSince_121 : decode cX0_changedSince 121 = .ok (.aload_n 0, 1) := by decide +kernel
theorem dX0_changedSince_122 : decode cX0_changedSince 122 = .ok (.aload_n 0, 1) := by decide +kernel
theorem dX0_changedSince_123 : decode cX0_changedSince 123 = .ok (.getfield 7, 3) := by decide +kernel
theorem dX0_changedSince_126 : decode cX0_changedSince 126 = .ok (.iconst 2, 1) := by decide +kernel
theorem dX0_changedSince_127 : decode cX0_changedSince 127 = .ok (.iload 5, 2) := by decide +kernel
theorem dX0_changedSince_129 : decode cX0_changedSince 129 = .ok (.imul, 1) := by decide +kernel
theorem dX0_changedSince_130 : decode cX0_changedSince 130 = .ok (.saload, 1) := by decide +kernel
theorem dX0_changedSince_131 : decode cX0_changedSince 131 = .ok (.iload 6, 2) := by decide +kernel
theorem dX0_changedSince_133 : decode cX0_changedSince 133 = .ok (.iload 7, 2) := by decide +kernel
theorem dX0_changedSince_135 : decode cX0_changedSince 135 = .ok (.iconst 2, 1) := by decide +kernel
theorem dX0_changedSince_136 : decode cX0_changedSince 136 = .ok (.idiv, 1) := by decide +kernel
theorem dX0_changedSince_137 : decode cX0_changedSince 137 = .ok (.invokevirtual 112, 3) := by decide +kernel
theorem dX0_changedSince_140 : decode cX0_changedSince 140 = .ok (.aload_n 0, 1) := by decide +kernel
theorem dX0_changedSince_141 : decode cX0_changedSince 141 = .ok (.aload_n 0, 1) := by decide +kernel
theorem dX0_changedSince_142 : decode cX0_changedSince 142 = .ok (.getfield 7, 3) := by decide +kernel
theorem dX0_changedSince_145 : decode cX0_changedSince 145 = .ok (.iconst 2, 1) := by decide +kernel
theorem dX0_changedSince_146 : decode cX0_changedSince 146 = .ok (.iload 5, 2) := by decide +kernel
theorem dX0_changedSince_148 : decode cX0_changedSince 148 = .ok (.imul, 1) := by decide +kernel
theorem dX0_changedSince_149 : decode cX0_changedSince 149 = .ok (.iconst 1, 1) := by decide +kernel
theorem dX0_changedSince_150 : decode cX0_changedSince 150 = .ok (.iadd, 1) := by decide +kernel
theorem dX0_changedSince_151 : decode cX0_changedSince 151 = .ok (.saload, 1) := by decide +kernel
theorem dX0_changedSince_152 : decode cX0_changedSince 152 = .ok (.iload 6, 2) := by decide +kernel
theorem dX0_changedSince_154 : decode cX0_changedSince 154 = .ok (.iload 7, 2) := by decide +kernel
theorem dX0_changedSince_156 : decode cX0_changedSince 156 = .ok (.iconst 2, 1) := by decide +kernel
theorem dX0_changedSince_157 : decode cX0_changedSince 157 = .ok (.idiv, 1) := by decide +kernel
theorem dX0_changedSince_158 : decode cX0_changedSince 158 = .ok (.iadd, 1) := by decide +kernel
theorem dX0_changedSince_159 : decode cX0_changedSince 159 = .ok (.iload 7, 2) := by decide +kernel
theorem dX0_changedSince_161 : decode cX0_changedSince 161 = .ok (.iconst 2, 1) := by decide +kernel
theorem dX0_changedSince_162 : decode cX0_changedSince 162 = .ok (.idiv, 1) := by decide +kernel
theorem dX0_changedSince_163 : decode cX0_changedSince 163 = .ok (.invokevirtual 112, 3) := by decide +kernel
theorem dX0_changedSince_166 : decode cX0_changedSince 166 = .ok (.goto (-150), 3) := by decide +kernel
theorem dX0_changedSince_169 : decode cX0_changedSince 169 = .ok (.iload 4, 2) := by decide +kernel
theorem dX0_changedSince_171 : decode cX0_changedSince 171 = .ok (.ireturn, 1) := by decide +kernel
theorem dX0_push_0 : decode cX0_push 0 = .ok (.iload_n 1, 1) := by decide +kernel
theorem dX0_push_1 : decode cX0_push 1 = .ok (.ifCond .ge 4, 3) := by decide +kernel
theorem dX0_push_4 : decode cX0_push 4 = .ok (.return_, 1) := by decide +kernel
theorem dX0_push_5 : decode cX0_push 5 = .ok (.aload_n 0, 1) := by decide +kernel
theorem dX0_push_6 : decode cX0_push 6 = .ok (.getfield 58, 3) := by decide +kernel
theorem dX0_push_9 : decode cX0_push 9 = .ok (.aload_n 0, 1) := by decide +kernel
theorem dX0_push_10 : decode cX0_push 10 = .ok (.getfield 109, 3) := by decide +kernel
theorem dX0_push_13 : decode cX0_push 13 = .ok (.iload_n 1, 1) := by decide +kernel
theorem dX0_push_14 : decode cX0_push 14 = .ok (.i2s, 1) := by decide +kernel
theorem dX0_push_15 : decode cX0_push 15 = .ok (.sastore, 1) := by decide +kernel
theorem dX0_push_16 : decode cX0_push 16 = .ok (.aload_n 0, 1) := by decide +kernel
theorem dX0_push_17 : decode cX0_push 17 = .ok (.getfield 61, 3) := by decide +kernel
theorem dX0_push_20 : decode cX0_push 20 = .ok (.aload_n 0, 1) := by decide +kernel
theorem dX0_push_21 : decode cX0_push 21 = .ok (.getfield 109, 3) := by decide +kernel
theorem dX0_push_24 : decode cX0_push 24 = .ok (.iload_n 2, 1) := by decide +kernel
theorem dX0_push_25 : decode cX0_push 25 = .ok (.i2b, 1) := by decide +kernel
theorem dX0_push_26 : decode cX0_push 26 = .ok (.bastore, 1) := by decide +kernel
theorem dX0_push_27 : decode cX0_push 27 = .ok (.aload_n 0, 1) := by decide +kernel
theorem dX0_push_28 : decode cX0_push 28 = .ok (.getfield 64, 3) := by decide +kernel
theorem dX0_push_31 : decode cX0_push 31 = .ok (.aload_n 0, 1) := by decide +kernel
theorem dX0_push_32 : decode cX0_push 32 = .ok (.getfield 109, 3) := by decide +kernel
theorem dX0_push_35 : decode cX0_push 35 = .ok (.iload_n 3, 1) := by decide +kernel
theorem dX0_push_36 : decode cX0_push 36 = .ok (.i2b, 1) := by decide +kernel
theorem dX0_push_37 : decode cX0_push 37 = .ok (.bastore, 1) := by decide +kernel
theorem dX0_push_38 : decode cX0_push 38 = .ok (.aload_n 0, 1) := by decide +kernel
theorem dX0_push_39 : decode cX0_push 39 = .ok (.dup, 1) := by decide +kernel
theorem dX0_push_40 : decode cX0_push 40 = .ok (.getfield 109, 3) := by decide +kernel
theorem dX0_push_43 : decode cX0_push 43 = .ok (.iconst 1, 1) := by decide +kernel
theorem dX0_push_44 : decode cX0_push 44 = .ok (.iadd, 1) := by decide +kernel
theorem dX0_push_45 : decode cX0_push 45 = .ok (.putfield 109, 3) := by decide +kernel
theorem dX0_push_48 : decode cX0_push 48 = .ok (.return_, 1) := by decide +kernel
theorem dX0_written_0 : decode cX0_written 0 = .ok (.aload_n 0, 1) := by decide +kernel
theorem dX0_written_1 : decode cX0_written 1 = .ok (.getfield 49, 3) := by decide +kernel
theorem dX0_written_4 : decode cX0_written 4 = .ok (.iload_n 2, 1) := by decide +kernel
theorem dX0_written_5 : decode cX0_written 5 = .ok (.baload, 1) := by decide +kernel
theorem dX0_written_6 : decode cX0_written 6 = .ok (.istore_n 3, 1) := by decide +kernel
theorem dX0_written_7 : decode cX0_written 7 = .ok (.aload_n 0, 1) := by decide +kernel
theorem dX0_written_8 : decode cX0_written 8 = .ok (.invokevirtual 116, 3) := by decide +kernel
theorem dX0_written_11 : decode cX0_written 11 = .ok (.istore 4, 2) := by decide +kernel
theorem dX0_written_13 : decode cX0_written 13 = .ok (.aload_n 0, 1) := by decide +kernel
theorem dX0_written_14 : decode cX0_written 14 = .ok (.getfield 7, 3) := by decide +kernel
theorem dX0_written_17 : decode cX0_written 17 = .ok (.iconst 2, 1) := by decide +kernel
theorem dX0_written_18 : decode cX0_written 18 = .ok (.iload 4, 2) := by decide +kernel
theorem dX0_written_20 : decode cX0_written 20 = .ok (.imul, 1) := by decide +kernel
theorem dX0_written_21 : decode cX0_written 21 = .ok (.iconst (-1), 1) := by decide +kernel
theorem dX0_written_22 : decode cX0_written 22 = .ok (.sastore, 1) := by decide +kernel
theorem dX0_written_23 : decode cX0_written 23 = .ok (.aload_n 0, 1) := by decide +kernel
theorem dX0_written_24 : decode cX0_written 24 = .ok (.getfield 7, 3) := by decide +kernel
theorem dX0_written_27 : decode cX0_written 27 = .ok (.iconst 2, 1) := by decide +kernel
theorem dX0_written_28 : decode cX0_written 28 = .ok (.iload 4, 2) := by decide +kernel
theorem dX0_written_30 : decode cX0_written 30 = .ok (.imul, 1) := by decide +kernel
theorem dX0_written_31 : decode cX0_written 31 = .ok (.iconst 1, 1) := by decide +kernel
theorem dX0_written_32 : decode cX0_written 32 = .ok (.iadd, 1) := by decide +kernel
theorem dX0_written_33 : decode cX0_written 33 = .ok (.iconst (-1), 1) := by decide +kernel
theorem dX0_written_34 : decode cX0_written 34 = .ok (.sastore, 1) := by decide +kernel
theorem dX0_written_35 : decode cX0_written 35 = .ok (.aload_n 0, 1) := by decide +kernel
theorem dX0_written_36 : decode cX0_written 36 = .ok (.getfield 13, 3) := by decide +kernel
theorem dX0_written_39 : decode cX0_written 39 = .ok (.iload 4, 2) := by decide +kernel
theorem dX0_written_41 : decode cX0_written 41 = .ok (.aload_n 0, 1) := by decide +kernel
theorem dX0_written_42 : decode cX0_written 42 = .ok (.getfield 52, 3) := by decide +kernel
theorem dX0_written_45 : decode cX0_written 45 = .ok (.iload_n 2, 1) := by decide +kernel
theorem dX0_written_46 : decode cX0_written 46 = .ok (.iaload, 1) := by decide +kernel
theorem dX0_written_47 : decode cX0_written 47 = .ok (.iastore, 1) := by decide +kernel
theorem dX0_written_48 : decode cX0_written 48 = .ok (.aload_n 0, 1) := by decide +kernel
theorem dX0_written_49 : decode cX0_written 49 = .ok (.getfield 17, 3) := by decide +kernel
theorem dX0_written_52 : decode cX0_written 52 = .ok (.iload 4, 2) := by decide +kernel
theorem dX0_written_54 : decode cX0_written 54 = .ok (.aload_n 0, 1) := by decide +kernel
theorem dX0_written_55 : decode cX0_written 55 = .ok (.getfield 55, 3) := by decide +kernel
theorem dX0_written_58 : decode cX0_written 58 = .ok (.iload_n 2, 1) := by decide +kernel
theorem dX0_written_59 : decode cX0_written 59 = .ok (.baload, 1) := by decide +kernel
theorem dX0_written_60 : decode cX0_written 60 = .ok (.bastore, 1) := by decide +kernel
theorem dX0_written_61 : decode cX0_written 61 = .ok (.aload_n 0, 1) := by decide +kernel
theorem dX0_written_62 : decode cX0_written 62 = .ok (.iconst 0, 1) := by decide +kernel
theorem dX0_written_63 : decode cX0_written 63 = .ok (.putfield 109, 3) := by decide +kernel
theorem dX0_written_66 : decode cX0_written 66 = .ok (.iload_n 1, 1) := by decide +kernel
theorem dX0_written_67 : decode cX0_written 67 = .ok (.istore 5, 2) := by decide +kernel
theorem dX0_written_69 : decode cX0_written 69 = .ok (.iconst 4, 1) := by decide +kernel
theorem dX0_written_70 : decode cX0_written 70 = .ok (.istore 6, 2) := by decide +kernel
theorem dX0_written_72 : decode cX0_written 72 = .ok (.iload 6, 2) := by decide +kernel
theorem dX0_written_74 : decode cX0_written 74 = .ok (.ifCond .lt 54, 3) := by decide +kernel
theorem dX0_written_77 : decode cX0_written 77 = .ok (.aload_n 0, 1) := by decide +kernel
theorem dX0_written_78 : decode cX0_written 78 = .ok (.getfield 58, 3) := by decide +kernel
theorem dX0_written_81 : decode cX0_written 81 = .ok (.aload_n 0, 1) := by decide +kernel
theorem dX0_written_82 : decode cX0_written 82 = .ok (.getfield 109, 3) := by decide +kernel
theorem dX0_written_85 : decode cX0_written 85 = .ok (.iload 5, 2) := by decide +kernel
theorem dX0_written_87 : decode cX0_written 87 = .ok (.i2s, 1) := by decide +kernel
theorem dX0_written_88 : decode cX0_written 88 = .ok (.sastore, 1) := by decide +kernel
theorem dX0_written_89 : decode cX0_written 89 = .ok (.aload_n 0, 1) := by decide +kernel
theorem dX0_written_90 : decode cX0_written 90 = .ok (.dup, 1) := by decide +kernel
theorem dX0_written_91 : decode cX0_written 91 = .ok (.getfield 109, 3) := by decide +kernel
theorem dX0_written_94 : decode cX0_written 94 = .ok (.iconst 1, 1) := by decide +kernel
theorem dX0_written_95 : decode cX0_written 95 = .ok (.iadd, 1) := by decide +kernel
theorem dX0_written_96 : decode cX0_written 96 = .ok (.putfield 109, 3) := by decide +kernel
theorem dX0_written_99 : decode cX0_written 99 = .ok (.iload 5, 2) := by decide +kernel
theorem dX0_written_101 : decode cX0_written 101 = .ok (.ifCond .lt 21, 3) := by decide +kernel
theorem dX0_written_104 : decode cX0_written 104 = .ok (.aload_n 0, 1) := by decide +kernel
theorem dX0_written_105 : decode cX0_written 105 = .ok (.getfield 7, 3) := by decide +kernel
theorem dX0_written_108 : decode cX0_written 108 = .ok (.iconst 2, 1) := by decide +kernel
theorem dX0_written_109 : decode cX0_written 109 = .ok (.iload 5, 2) := by decide +kernel
theorem dX0_written_111 : decode cX0_written 111 = .ok (.imul, 1) := by decide +kernel
theorem dX0_written_112 : decode cX0_written 112 = .ok (.iload_n 3, 1) := by decide +kernel
theorem dX0_written_113 : decode cX0_written 113 = .ok (.iload 6, 2) := by decide +kernel
theorem dX0_written_115 : decode cX0_written 115 = .ok (.ishr, 1) := by decide +kernel
theorem dX0_written_116 : decode cX0_written 116 = .ok (.iconst 1, 1) := by decide +kernel
theorem dX0_written_117 : decode cX0_written 117 = .ok (.iand, 1) := by decide +kernel
theorem dX0_written_118 : decode cX0_written 118 = .ok (.iadd, 1) := by decide +kernel
theorem dX0_written_119 : decode cX0_written 119 = .ok (.saload, 1) := by decide +kernel
theorem dX0_written_120 : decode cX0_written 120 = .ok (.istore 5, 2) := by decide +kernel
theorem dX0_written_122 : decode cX0_written 122 = .ok (.iinc 6 (-1), 3) := by decide +kernel
theorem dX0_written_125 : decode cX0_written 125 = .ok (.goto (-53), 3) := by decide +kernel
theorem dX0_written_128 : decode cX0_written 128 = .ok (.iload 4, 2) := by decide +kernel
theorem dX0_written_130 : decode cX0_written 130 = .ok (.istore 6, 2) := by decide +kernel
theorem dX0_written_132 : decode cX0_written 132 = .ok (.iconst 0, 1) := by decide +kernel
theorem dX0_written_133 : decode cX0_written 133 = .ok (.istore 7, 2) := by decide +kernel
theorem dX0_written_135 : decode cX0_written 135 = .ok (.iload 7, 2) := by decide +kernel
theorem dX0_written_137 : decode cX0_written 137 = .ok (.iconst 5, 1) := by decide +kernel
theorem dX0_written_138 : decode cX0_written 138 = .ok (.if_icmp .ge 100, 3) := by decide +kernel
theorem dX0_written_141 : decode cX0_written 141 = .ok (.aload_n 0, 1) := by decide +kernel
theorem dX0_written_142 : decode cX0_written 142 = .ok (.dup, 1) := by decide +kernel
theorem dX0_written_143 : decode cX0_written 143 = .ok (.getfield 109, 3) := by decide +kernel
theorem dX0_written_146 : decode cX0_written 146 = .ok (.iconst 1, 1) := by decide +kernel
theorem dX0_written_147 : decode cX0_written 147 = .ok (.isub, 1) := by decide +kernel
theorem dX0_written_148 : decode cX0_written 148 = .ok (.putfield 109, 3) := by decide +kernel
theorem dX0_written_151 : decode cX0_written 151 = .ok (.aload_n 0, 1) := by decide +kernel
theorem dX0_written_152 : decode cX0_written 152 = .ok (.getfield 58, 3) := by decide +kernel
theorem dX0_written_155 : decode cX0_written 155 = .ok (.aload_n 0, 1) := by decide +kernel
theorem dX0_written_156 : decode cX0_written 156 = .ok (.getfield 109, 3) := by decide +kernel
theorem dX0_written_159 : decode cX0_written 159 = .ok (.saload, 1) := by decide +kernel
theorem dX0_written_160 : decode cX0_written 160 = .ok (.istore 8, 2) := by decide +kernel
theorem dX0_written_162 : decode cX0_written 162 = .ok (.iload_n 3, 1) := by decide +kernel
theorem dX0_written_163 : decode cX0_written 163 = .ok (.iload 7, 2) := by decide +kernel
theorem dX0_written_165 : decode cX0_written 165 = .ok (.ishr, 1) := by decide +kernel
theorem dX0_written_166 : decode cX0_written 166 = .ok (.iconst 1, 1) := by decide +kernel
theorem dX0_written_167 : decode cX0_written 167 = .ok (.iand, 1) := by decide +kernel
theorem dX0_written_168 : decode cX0_written 168 = .ok (.istore 9, 2) := by decide +kernel
theorem dX0_written_170 : decode cX0_written 170 = .ok (.aload_n 0, 1) := by decide +kernel
theorem dX0_written_171 : decode cX0_written 171 = .ok (.invokevirtual 116, 3) := by decide +kernel
theorem dX0_written_174 : decode cX0_written 174 = .ok (.istore 10, 2) := by decide +kernel
theorem dX0_written_176 : decode cX0_written 176 = .ok (.aload_n 0, 1) := by decide +kernel
theorem dX0_written_177 : decode cX0_written 177 = .ok (.getfield 7, 3) := by decide +kernel
theorem dX0_written_180 : decode cX0_written 180 = .ok (.iconst 2, 1) := by decide +kernel
theorem dX0_written_181 : decode cX0_written 181 = .ok (.iload 10, 2) := by decide +kernel
theorem dX0_written_183 : decode cX0_written 183 = .ok (.imul, 1) := by decide +kernel
theorem dX0_written_184 : decode cX0_written 184 = .ok (.iload 9, 2) := by decide +kernel
theorem dX0_written_186 : decode cX0_written 186 = .ok (.iadd, 1) := by decide +kernel
theorem dX0_written_187 : decode cX0_written 187 = .ok (.iload 6, 2) := by decide +kernel
theorem dX0_written_189 : decode cX0_written 189 = .ok (.i2s, 1) := by decide +kernel
theorem dX0_written_190 : decode cX0_written 190 = .ok (.sastore, 1) := by decide +kernel
theorem dX0_written_191 : decode cX0_written 191 = .ok (.aload_n 0, 1) := by decide +kernel
theorem dX0_written_192 : decode cX0_written 192 = .ok (.getfield 7, 3) := by decide +kernel
theorem dX0_written_195 : decode cX0_written 195 = .ok (.iconst 2, 1) := by decide +kernel
theorem dX0_written_196 : decode cX0_written 196 = .ok (.iload 10, 2) := by decide +kernel
theorem dX0_written_198 : decode cX0_written 198 = .ok (.imul, 1) := by decide +kernel
theorem dX0_written_199 : decode cX0_written 199 = .ok (.iconst 1, 1) := by decide +kernel
theorem dX0_written_200 : decode cX0_written 200 = .ok (.iadd, 1) := by decide +kernel
theorem dX0_written_201 : decode cX0_written 201 = .ok (.iload 9, 2) := by decide +kernel
theorem dX0_written_203 : decode cX0_written 203 = .ok (.isub, 1) := by decide +kernel
theorem dX0_written_204 : decode cX0_written 204 = .ok (.iload 8, 2) := by decide +kernel
theorem dX0_written_206 : decode cX0_written 206 = .ok (.ifCond .ge 7, 3) := by decide +kernel
theorem dX0_written_209 : decode cX0_written 209 = .ok (.iconst (-1), 1) := by decide +kernel
theorem dX0_written_210 : decode cX0_written 210 = .ok (.goto 17, 3) := by decide +kernel
theorem dX0_written_213 : decode cX0_written 213 = .ok (.aload_n 0, 1) := by decide +kernel
theorem dX0_written_214 : decode cX0_written 214 = .ok (.getfield 7, 3) := by decide +kernel
theorem dX0_written_217 : decode cX0_written 217 = .ok (.iconst 2, 1) := by decide +kernel
theorem dX0_written_218 : decode cX0_written 218 = .ok (.iload 8, 2) := by decide +kernel
theorem dX0_written_220 : decode cX0_written 220 = .ok (.imul, 1) := by decide +kernel
theorem dX0_written_221 : decode cX0_written 221 = .ok (.iconst 1, 1) := by decide +kernel
theorem dX0_written_222 : decode cX0_written 222 = .ok (.iadd, 1) := by decide +kernel
theorem dX0_written_223 : decode cX0_written 223 = .ok (.iload 9, 2) := by decide +kernel
theorem dX0_written_225 : decode cX0_written 225 = .ok (.isub, 1) := by decide +kernel
theorem dX0_written_226 : decode cX0_written 226 = .ok (.saload, 1) := by decide +kernel
theorem dX0_written_227 : decode cX0_written 227 = .ok (.sastore, 1) := by decide +kernel
theorem dX0_written_228 : decode cX0_written 228 = .ok (.iload 10, 2) := by decide +kernel
theorem dX0_written_230 : decode cX0_written 230 = .ok (.istore 6, 2) := by decide +kernel
theorem dX0_written_232 : decode cX0_written 232 = .ok (.iinc 7 1, 3) := by decide +kernel
theorem dX0_written_235 : decode cX0_written 235 = .ok (.goto (-100), 3) := by decide +kernel
theorem dX0_written_238 : decode cX0_written 238 = .ok (.iload 6, 2) := by decide +kernel
theorem dX0_written_240 : decode cX0_written 240 = .ok (.ireturn, 1) := by decide +kernel
theorem dX0_newNode_0 : decode cX0_newNode 0 = .ok (.aload_n 0, 1) := by decide +kernel
theorem dX0_newNode_1 : decode cX0_newNode 1 = .ok (.dup, 1) := by decide +kernel
theorem dX0_newNode_2 : decode cX0_newNode 2 = .ok (.getfield 67, 3) := by decide +kernel
theorem dX0_newNode_5 : decode cX0_newNode 5 = .ok (.iconst 1, 1) := by decide +kernel
theorem dX0_newNode_6 : decode cX0_newNode 6 = .ok (.isub, 1) := by decide +kernel
theorem dX0_newNode_7 : decode cX0_newNode 7 = .ok (.putfield 67, 3) := by decide +kernel
theorem dX0_newNode_10 : decode cX0_newNode 10 = .ok (.aload_n 0, 1) := by decide +kernel
theorem dX0_newNode_11 : decode cX0_newNode 11 = .ok (.getfield 27, 3) := by decide +kernel
theorem dX0_newNode_14 : decode cX0_newNode 14 = .ok (.aload_n 0, 1) := by decide +kernel
theorem dX0_newNode_15 : decode cX0_newNode 15 = .ok (.getfield 67, 3) := by decide +kernel
theorem dX0_newNode_18 : decode cX0_newNode 18 = .ok (.saload, 1) := by decide +kernel
theorem dX0_newNode_19 : decode cX0_newNode 19 = .ok (.istore_n 1, 1) := by decide +kernel
theorem dX0_newNode_20 : decode cX0_newNode 20 = .ok (.aload_n 0, 1) := by decide +kernel
theorem dX0_newNode_21 : decode cX0_newNode 21 = .ok (.getfield 21, 3) := by decide +kernel
theorem dX0_newNode_24 : decode cX0_newNode 24 = .ok (.iload_n 1, 1) := by decide +kernel
theorem dX0_newNode_25 : decode cX0_newNode 25 = .ok (.aload_n 0, 1) := by decide +kernel
theorem dX0_newNode_26 : decode cX0_newNode 26 = .ok (.getfield 71, 3) := by decide +kernel
theorem dX0_newNode_29 : decode cX0_newNode 29 = .ok (.iastore, 1) := by decide +kernel
theorem dX0_newNode_30 : decode cX0_newNode 30 = .ok (.iload_n 1, 1) := by decide +kernel
theorem dX0_newNode_31 : decode cX0_newNode 31 = .ok (.ireturn, 1) := by decide +kernel
theorem dX0_abort_0 : decode cX0_abort 0 = .ok (.aload_n 0, 1) := by decide +kernel
theorem dX0_abort_1 : decode cX0_abort 1 = .ok (.iload_n 1, 1) := by decide +kernel
theorem dX0_abort_2 : decode cX0_abort 2 = .ok (.iconst 0, 1) := by decide +kernel
theorem dX0_abort_3 : decode cX0_abort 3 = .ok (.iconst 0, 1) := by decide +kernel
theorem dX0_abort_4 : decode cX0_abort 4 = .ok (.invokevirtual 78, 3) := by decide +kernel
theorem dX0_abort_7 : decode cX0_abort 7 = .ok (.istore_n 2, 1) := by decide +kernel
theorem dX0_abort_8 : decode cX0_abort 8 = .ok (.iload_n 2, 1) := by decide +kernel
theorem dX0_abort_9 : decode cX0_abort 9 = .ok (.ifCond .eq 5, 3) := by decide +kernel
theorem dX0_abort_12 : decode cX0_abort 12 = .ok (.iload_n 2, 1) := by decide +kernel
theorem dX0_abort_13 : decode cX0_abort 13 = .ok (.ireturn, 1) := by decide +kernel
theorem dX0_abort_14 : decode cX0_abort 14 = .ok (.aload_n 0, 1) := by decide +kernel
theorem dX0_abort_15 : decode cX0_abort 15 = .ok (.getfield 33, 3) := by decide +kernel
theorem dX0_abort_18 : decode cX0_abort 18 = .ok (.iload_n 1, 1) := by decide +kernel
theorem dX0_abort_19 : decode cX0_abort 19 = .ok (.iconst 0, 1) := by decide +kernel
theorem dX0_abort_20 : decode cX0_abort 20 = .ok (.bastore, 1) := by decide +kernel
theorem dX0_abort_21 : decode cX0_abort 21 = .ok (.aload_n 0, 1) := by decide +kernel
theorem dX0_abort_22 : decode cX0_abort 22 = .ok (.getfield 39, 3) := by decide +kernel
theorem dX0_abort_25 : decode cX0_abort 25 = .ok (.iload_n 1, 1) := by decide +kernel
theorem dX0_abort_26 : decode cX0_abort 26 = .ok (.iconst (-1), 1) := by decide +kernel
theorem dX0_abort_27 : decode cX0_abort 27 = .ok (.sastore, 1) := by decide +kernel
theorem dX0_abort_28 : decode cX0_abort 28 = .ok (.aload_n 0, 1) := by decide +kernel
theorem dX0_abort_29 : decode cX0_abort 29 = .ok (.getfield 45, 3) := by decide +kernel
theorem dX0_abort_32 : decode cX0_abort 32 = .ok (.iload_n 1, 1) := by decide +kernel
theorem dX0_abort_33 : decode cX0_abort 33 = .ok (.baload, 1) := by decide +kernel
theorem dX0_abort_34 : decode cX0_abort 34 = .ok (.ireturn, 1) := by decide +kernel
theorem dX0_latest_0 : decode cX0_latest 0 = .ok (.aload_n 0, 1) := by decide +kernel
theorem dX0_latest_1 : decode cX0_latest 1 = .ok (.getfield 71, 3) := by decide +kernel
theorem dX0_latest_4 : decode cX0_latest 4 = .ok (.ireturn, 1) := by decide +kernel
theorem dX0_has_0 : decode cX0_has 0 = .ok (.aload_n 0, 1) := by decide +kernel
theorem dX0_has_1 : decode cX0_has 1 = .ok (.iload_n 1, 1) := by decide +kernel
theorem dX0_has_2 : decode cX0_has 2 = .ok (.invokevirtual 102, 3) := by decide +kernel
theorem dX0_has_5 : decode cX0_has 5 = .ok (.ifCond .eq 13, 3) := by decide +kernel
theorem dX0_has_8 : decode cX0_has 8 = .ok (.iload_n 2, 1) := by decide +kernel
theorem dX0_has_9 : decode cX0_has 9 = .ok (.ifCond .lt 9, 3) := by decide +kernel
theorem dX0_has_12 : decode cX0_has 12 = .ok (.iload_n 2, 1) := by decide +kernel
theorem dX0_has_13 : decode cX0_has 13 = .ok (.bipush 31, 2) := by decide +kernel
theorem dX0_has_15 : decode cX0_has 15 = .ok (.if_icmp .le 5, 3) := by decide +kernel
theorem dX0_has_18 : decode cX0_has 18 = .ok (.iconst 0, 1) := by decide +kernel
theorem dX0_has_19 : decode cX0_has 19 = .ok (.ireturn, 1) := by decide +kernel
theorem dX0_has_20 : decode cX0_has 20 = .ok (.aload_n 0, 1) := by decide +kernel
theorem dX0_has_21 : decode cX0_has 21 = .ok (.aload_n 0, 1) := by decide +kernel
theorem dX0_has_22 : decode cX0_has 22 = .ok (.getfield 30, 3) := by decide +kernel
theorem dX0_has_25 : decode cX0_has 25 = .ok (.iload_n 1, 1) := by decide +kernel
theorem dX0_has_26 : decode cX0_has 26 = .ok (.bipush 6, 2) := by decide +kernel
theorem dX0_has_28 : decode cX0_has 28 = .ok (.irem, 1) := by decide +kernel
theorem dX0_has_29 : decode cX0_has 29 = .ok (.saload, 1) := by decide +kernel
theorem dX0_has_30 : decode cX0_has 30 = .ok (.iload_n 2, 1) := by decide +kernel
theorem dX0_has_31 : decode cX0_has 31 = .ok (.invokevirtual 90, 3) := by decide +kernel
theorem dX0_has_34 : decode cX0_has 34 = .ok (.istore_n 3, 1) := by decide +kernel
theorem dX0_has_35 : decode cX0_has 35 = .ok (.iload_n 3, 1) := by decide +kernel
theorem dX0_has_36 : decode cX0_has 36 = .ok (.ifCond .lt 16, 3) := by decide +kernel
theorem dX0_has_39 : decode cX0_has 39 = .ok (.aload_n 0, 1) := by decide +kernel
theorem dX0_has_40 : decode cX0_has 40 = .ok (.getfield 17, 3) := by decide +kernel
theorem dX0_has_43 : decode cX0_has 43 = .ok (.iload_n 3, 1) := by decide +kernel
theorem dX0_has_44 : decode cX0_has 44 = .ok (.baload, 1) := by decide +kernel
theorem dX0_has_45 : decode cX0_has 45 = .ok (.ifCond .eq 7, 3) := by decide +kernel
theorem dX0_has_48 : decode cX0_has 48 = .ok (.iconst 1, 1) := by decide +kernel
theorem dX0_has_49 : decode cX0_has 49 = .ok (.goto 4, 3) := by decide +kernel
theorem dX0_has_52 : decode cX0_has 52 = .ok (.iconst 0, 1) := by decide +kernel
theorem dX0_has_53 : decode cX0_has 53 = .ok (.ireturn, 1) := by decide +kernel
theorem dX0_isKept_0 : decode cX0_isKept 0 = .ok (.iload_n 1, 1) := by decide +kernel
theorem dX0_isKept_1 : decode cX0_isKept 1 = .ok (.ifCond .lt 26, 3) := by decide +kernel
theorem dX0_isKept_4 : decode cX0_isKept 4 = .ok (.iload_n 1, 1) := by decide +kernel
theorem dX0_isKept_5 : decode cX0_isKept 5 = .ok (.aload_n 0, 1) := by decide +kernel
theorem dX0_isKept_6 : decode cX0_isKept 6 = .ok (.getfield 71, 3) := by decide +kernel
theorem dX0_isKept_9 : decode cX0_isKept 9 = .ok (.if_icmp .gt 18, 3) := by decide +kernel
theorem dX0_isKept_12 : decode cX0_isKept 12 = .ok (.iload_n 1, 1) := by decide +kernel
theorem dX0_isKept_13 : decode cX0_isKept 13 = .ok (.aload_n 0, 1) := by decide +kernel
theorem dX0_isKept_14 : decode cX0_isKept 14 = .ok (.getfield 71, 3) := by decide +kernel
theorem dX0_isKept_17 : decode cX0_isKept 17 = .ok (.bipush 6, 2) := by decide +kernel
theorem dX0_isKept_19 : decode cX0_isKept 19 = .ok (.isub, 1) := by decide +kernel
theorem dX0_isKept_20 : decode cX0_isKept 20 = .ok (.if_icmp .le 7, 3) := by decide +kernel
theorem dX0_isKept_23 : decode cX0_isKept 23 = .ok (.iconst 1, 1) := by decide +kernel
theorem dX0_isKept_24 : decode cX0_isKept 24 = .ok (.goto 4, 3) := by decide +kernel
theorem dX0_isKept_27 : decode cX0_isKept 27 = .ok (.iconst 0, 1) := by decide +kernel
theorem dX0_isKept_28 : decode cX0_isKept 28 = .ok (.ireturn, 1) := by decide +kernel
theorem dX0_at_0 : decode cX0_at 0 = .ok (.aload_n 0, 1) := by decide +kernel
theorem dX0_at_1 : decode cX0_at 1 = .ok (.iload_n 1, 1) := by decide +kernel
theorem dX0_at_2 : decode cX0_at 2 = .ok (.iload_n 2, 1) := by decide +kernel
theorem dX0_at_3 : decode cX0_at 3 = .ok (.invokevirtual 106, 3) := by decide +kernel
theorem dX0_at_6 : decode cX0_at 6 = .ok (.ifCond .ne 5, 3) := by decide +kernel
theorem dX0_at_9 : decode cX0_at 9 = .ok (.iconst 0, 1) := by decide +kernel
theorem dX0_at_10 : decode cX0_at 10 = .ok (.ireturn, 1) := by decide +kernel
theorem dX0_at_11 : decode cX0_at 11 = .ok (.aload_n 0, 1) := by decide +kernel
theorem dX0_at_12 : decode cX0_at 12 = .ok (.aload_n 0, 1) := by decide +kernel
theorem dX0_at_13 : decode cX0_at 13 = .ok (.getfield 30, 3) := by decide +kernel
theorem dX0_at_16 : decode cX0_at 16 = .ok (.iload_n 1, 1) := by decide +kernel
theorem dX0_at_17 : decode cX0_at 17 = .ok (.bipush 6, 2) := by decide +kernel
theorem dX0_at_19 : decode cX0_at 19 = .ok (.irem, 1) := by decide +kernel
theorem dX0_at_20 : decode cX0_at 20 = .ok (.saload, 1) := by decide +kernel
theorem dX0_at_21 : decode cX0_at 21 = .ok (.iload_n 2, 1) := by decide +kernel
theorem dX0_at_22 : decode cX0_at 22 = .ok (.invokevirtual 90, 3) := by decide +kernel
theorem dX0_at_25 : decode cX0_at 25 = .ok (.istore_n 3, 1) := by decide +kernel
theorem dX0_at_26 : decode cX0_at 26 = .ok (.aload_n 0, 1) := by decide +kernel
theorem dX0_at_27 : decode cX0_at 27 = .ok (.getfield 13, 3) := by decide +kernel
theorem dX0_at_30 : decode cX0_at 30 = .ok (.iload_n 3, 1) := by decide +kernel
theorem dX0_at_31 : decode cX0_at 31 = .ok (.iaload, 1) := by decide +kernel
theorem dX0_at_32 : decode cX0_at 32 = .ok (.ireturn, 1) := by decide +kernel
theorem dX0_size_0 : decode cX0_size 0 = .ok (.iload_n 1, 1) := by decide +kernel
theorem dX0_size_1 : decode cX0_size 1 = .ok (.ifCond .lt 11, 3) := by decide +kernel
theorem dX0_size_4 : decode cX0_size 4 = .ok (.iload_n 1, 1) := by decide +kernel
theorem dX0_size_5 : decode cX0_size 5 = .ok (.aload_n 0, 1) := by decide +kernel
theorem dX0_size_6 : decode cX0_size 6 = .ok (.getfield 71, 3) := by decide +kernel
theorem dX0_size_9 : decode cX0_size 9 = .ok (.if_icmp .le 5, 3) := by decide +kernel
theorem dX0_size_12 : decode cX0_size 12 = .ok (.iconst (-1), 1) := by decide +kernel
theorem dX0_size_13 : decode cX0_size 13 = .ok (.ireturn, 1) := by decide +kernel
theorem dX0_size_14 : decode cX0_size 14 = .ok (.aload_n 0, 1) := by decide +kernel
theorem dX0_size_15 : decode cX0_size 15 = .ok (.iload_n 1, 1) := by decide +kernel
theorem dX0_size_16 : decode cX0_size 16 = .ok (.invokevirtual 102, 3) := by decide +kernel
theorem dX0_size_19 : decode cX0_size 19 = .ok (.ifCond .ne 6, 3) := by decide +kernel
theorem dX0_size_22 : decode cX0_size 22 = .ok (.bipush (-6), 2) := by decide +kernel
theorem dX0_size_24 : decode cX0_size 24 = .ok (.ireturn, 1) := by decide +kernel
theorem dX0_size_25 : decode cX0_size 25 = .ok (.iconst 0, 1) := by decide +kernel
theorem dX0_size_26 : decode cX0_size 26 = .ok (.istore_n 2, 1) := by decide +kernel
theorem dX0_size_27 : decode cX0_size 27 = .ok (.iconst 0, 1) := by decide +kernel
theorem dX0_size_28 : decode cX0_size 28 = .ok (.istore_n 3, 1) := by decide +kernel
theorem dX0_size_29 : decode cX0_size 29 = .ok (.iload_n 3, 1) := by decide +kernel
theorem dX0_size_30 : decode cX0_size 30 = .ok (.bipush 32, 2) := by decide +kernel
theorem dX0_size_32 : decode cX0_size 32 = .ok (.if_icmp .ge 21, 3) := by decide +kernel
theorem dX0_size_35 : decode cX0_size 35 = .ok (.aload_n 0, 1) := by decide +kernel
theorem dX0_size_36 : decode cX0_size 36 = .ok (.iload_n 1, 1) := by decide +kernel
theorem dX0_size_37 : decode cX0_size 37 = .ok (.iload_n 3, 1) := by decide +kernel
theorem dX0_size_38 : decode cX0_size 38 = .ok (.invokevirtual 106, 3) := by decide +kernel
theorem dX0_size_41 : decode cX0_size 41 = .ok (.ifCond .eq 6, 3) := by decide +kernel
theorem dX0_size_44 : decode cX0_size 44 = .ok (.iinc 2 1, 3) := by decide +kernel
theorem dX0_size_47 : decode cX0_size 47 = .ok (.iinc 3 1, 3) := by decide +kernel
theorem dX0_size_50 : decode cX0_size 50 = .ok (.goto (-21), 3) := by decide +kernel
theorem dX0_size_53 : decode cX0_size 53 = .ok (.iload_n 2, 1) := by decide +kernel
theorem dX0_size_54 : decode cX0_size 54 = .ok (.ireturn, 1) := by decide +kernel
theorem dX0_changed_0 : decode cX0_changed 0 = .ok (.iload_n 1, 1) := by decide +kernel
theorem dX0_changed_1 : decode cX0_changed 1 = .ok (.ifCond .lt 28, 3) := by decide +kernel
theorem dX0_changed_4 : decode cX0_changed 4 = .ok (.iload_n 2, 1) := by decide +kernel
theorem dX0_changed_5 : decode cX0_changed 5 = .ok (.ifCond .lt 24, 3) := by decide +kernel
theorem dX0_changed_8 : decode cX0_changed 8 = .ok (.iload_n 1, 1) := by decide +kernel
theorem dX0_changed_9 : decode cX0_changed 9 = .ok (.aload_n 0, 1) := by decide +kernel
theorem dX0_changed_10 : decode cX0_changed 10 = .ok (.getfield 71, 3) := by decide +kernel
theorem dX0_changed_13 : decode cX0_changed 13 = .ok (.if_icmp .gt 16, 3) := by decide +kernel
theorem dX0_changed_16 : decode cX0_changed 16 = .ok (.iload_n 2, 1) := by decide +kernel
theorem dX0_changed_17 : decode cX0_changed 17 = .ok (.aload_n 0, 1) := by decide +kernel
theorem dX0_changed_18 : decode cX0_changed 18 = .ok (.getfield 71, 3) := by decide +kernel
theorem dX0_changed_21 : decode cX0_changed 21 = .ok (.if_icmp .gt 8, 3) := by decide +kernel
theorem dX0_changed_24 : decode cX0_changed 24 = .ok (.iload_n 1, 1) := by decide +kernel
theorem dX0_changed_25 : decode cX0_changed 25 = .ok (.iload_n 2, 1) := by decide +kernel
theorem dX0_changed_26 : decode cX0_changed 26 = .ok (.if_icmp .lt 5, 3) := by decide +kernel
theorem dX0_changed_29 : decode cX0_changed 29 = .ok (.iconst (-1), 1) := by decide +kernel
theorem dX0_changed_30 : decode cX0_changed 30 = .ok (.ireturn, 1) := by decide +kernel
theorem dX0_changed_31 : decode cX0_changed 31 = .ok (.aload_n 0, 1) := by decide +kernel
theorem dX0_changed_32 : decode cX0_changed 32 = .ok (.iload_n 1, 1) := by decide +kernel
theorem dX0_changed_33 : decode cX0_changed 33 = .ok (.invokevirtual 102, 3) := by decide +kernel
theorem dX0_changed_36 : decode cX0_changed 36 = .ok (.ifCond .ne 6, 3) := by decide +kernel
theorem dX0_changed_39 : decode cX0_changed 39 = .ok (.bipush (-6), 2) := by decide +kernel
theorem dX0_changed_41 : decode cX0_changed 41 = .ok (.ireturn, 1) := by decide +kernel
theorem dX0_changed_42 : decode cX0_changed 42 = .ok (.aload_n 0, 1) := by decide +kernel
theorem dX0_changed_43 : decode cX0_changed 43 = .ok (.aload_n 0, 1) := by decide +kernel
theorem dX0_changed_44 : decode cX0_changed 44 = .ok (.getfield 30, 3) := by decide +kernel
theorem dX0_changed_47 : decode cX0_changed 47 = .ok (.iload_n 2, 1) := by decide +kernel
theorem dX0_changed_48 : decode cX0_changed 48 = .ok (.bipush 6, 2) := by decide +kernel
theorem dX0_changed_50 : decode cX0_changed 50 = .ok (.irem, 1) := by decide +kernel
theorem dX0_changed_51 : decode cX0_changed 51 = .ok (.saload, 1) := by decide +kernel
theorem dX0_changed_52 : decode cX0_changed 52 = .ok (.iload_n 1, 1) := by decide +kernel
theorem dX0_changed_53 : decode cX0_changed 53 = .ok (.iconst (-1), 1) := by decide +kernel
theorem dX0_changed_54 : decode cX0_changed 54 = .ok (.invokevirtual 93, 3) := by decide +kernel
theorem dX0_changed_57 : decode cX0_changed 57 = .ok (.ireturn, 1) := by decide +kernel
end
section
set_option maxRecDepth 100000
theorem dX1_init_0 : decode cX1_init 0 = .ok (.aload_n 0, 1) := by decide +kernel
theorem dX1_init_1 : decode cX1_init 1 = .ok (.invokespecial 1, 3) := by decide +kernel
theorem dX1_init_4 : decode cX1_init 4 = .ok (.aload_n 0, 1) := by decide +kernel
theorem dX1_init_5 : decode cX1_init 5 = .ok (.iconst 0, 1) := by decide +kernel
theorem dX1_init_6 : decode cX1_init 6 = .ok (.putfield 7, 3) := by decide +kernel
theorem dX1_init_9 : decode cX1_init 9 = .ok (.aload_n 0, 1) := by decide +kernel
theorem dX1_init_10 : decode cX1_init 10 = .ok (.sipush 192, 3) := by decide +kernel
theorem dX1_init_13 : decode cX1_init 13 = .ok (.newarray .boolean, 2) := by decide +kernel
theorem dX1_init_15 : decode cX1_init 15 = .ok (.putfield 13, 3) := by decide +kernel
theorem dX1_init_18 : decode cX1_init 18 = .ok (.aload_n 0, 1) := by decide +kernel
theorem dX1_init_19 : decode cX1_init 19 = .ok (.sipush 192, 3) := by decide +kernel
theorem dX1_init_22 : decode cX1_init 22 = .ok (.newarray .int, 2) := by decide +kernel
theorem dX1_init_24 : decode cX1_init 24 = .ok (.putfield 17, 3) := by decide +kernel
theorem dX1_init_27 : decode cX1_init 27 = .ok (.aload_n 0, 1) := by decide +kernel
theorem dX1_init_28 : decode cX1_init 28 = .ok (.bipush 6, 2) := by decide +kernel
theorem dX1_init_30 : decode cX1_init 30 = .ok (.newarray .int, 2) := by decide +kernel
theorem dX1_init_32 : decode cX1_init 32 = .ok (.putfield 21, 3) := by decide +kernel
theorem dX1_init_35 : decode cX1_init 35 = .ok (.aload_n 0, 1) := by decide +kernel
theorem dX1_init_36 : decode cX1_init 36 = .ok (.iconst 4, 1) := by decide +kernel
theorem dX1_init_37 : decode cX1_init 37 = .ok (.newarray .boolean, 2) := by decide +kernel
theorem dX1_init_39 : decode cX1_init 39 = .ok (.putfield 24, 3) := by decide +kernel
theorem dX1_init_42 : decode cX1_init 42 = .ok (.aload_n 0, 1) := by decide +kernel
theorem dX1_init_43 : decode cX1_init 43 = .ok (.sipush 128, 3) := by decide +kernel
theorem dX1_init_46 : decode cX1_init 46 = .ok (.newarray .boolean, 2) := by decide +kernel
theorem dX1_init_48 : decode cX1_init 48 = .ok (.putfield 27, 3) := by decide +kernel
theorem dX1_init_51 : decode cX1_init 51 = .ok (.aload_n 0, 1) := by decide +kernel
theorem dX1_init_52 : decode cX1_init 52 = .ok (.sipush 128, 3) := by decide +kernel
theorem dX1_init_55 : decode cX1_init 55 = .ok (.newarray .int, 2) := by decide +kernel
theorem dX1_init_57 : decode cX1_init 57 = .ok (.putfield 30, 3) := by decide +kernel
theorem dX1_init_60 : decode cX1_init 60 = .ok (.aload_n 0, 1) := by decide +kernel
theorem dX1_init_61 : decode cX1_init 61 = .ok (.iconst 4, 1) := by decide +kernel
theorem dX1_init_62 : decode cX1_init 62 = .ok (.newarray .int, 2) := by decide +kernel
theorem dX1_init_64 : decode cX1_init 64 = .ok (.putfield 33, 3) := by decide +kernel
theorem dX1_init_67 : decode cX1_init 67 = .ok (.aload_n 0, 1) := by decide +kernel
theorem dX1_init_68 : decode cX1_init 68 = .ok (.iconst 4, 1) := by decide +kernel
theorem dX1_init_69 : decode cX1_init 69 = .ok (.newarray .int, 2) := by decide +kernel
theorem dX1_init_71 : decode cX1_init 71 = .ok (.putfield 36, 3) := by decide +kernel
theorem dX1_init_74 : decode cX1_init 74 = .ok (.aload_n 0, 1) := by decide +kernel
theorem dX1_init_75 : decode cX1_init 75 = .ok (.iconst 4, 1) := by decide +kernel
theorem dX1_init_76 : decode cX1_init 76 = .ok (.newarray .int, 2) := by decide +kernel
theorem dX1_init_78 : decode cX1_init 78 = .ok (.putfield 39, 3) := by decide +kernel
theorem dX1_init_81 : decode cX1_init 81 = .ok (.return_, 1) := by decide +kernel
theorem dX1_begin_0 : decode cX1_begin 0 = .ok (.aload_n 0, 1) := by decide +kernel
theorem dX1_begin_1 : decode cX1_begin 1 = .ok (.iload_n 1, 1) := by decide +kernel
theorem dX1_begin_2 : decode cX1_begin 2 = .ok (.invokevirtual 46, 3) := by decide +kernel
theorem dX1_begin_5 : decode cX1_begin 5 = .ok (.ifCond .ne 5, 3) := by decide +kernel
theorem dX1_begin_8 : decode cX1_begin 8 = .ok (.iconst (-1), 1) := by decide +kernel
theorem dX1_begin_9 : decode cX1_begin 9 = .ok (.ireturn, 1) := by decide +kernel
theorem dX1_begin_10 : decode cX1_begin 10 = .ok (.aload_n 0, 1) := by decide +kernel
theorem dX1_begin_11 : decode cX1_begin 11 = .ok (.getfield 24, 3) := by decide +kernel
theorem dX1_begin_14 : decode cX1_begin 14 = .ok (.iload_n 1, 1) := by decide +kernel
theorem dX1_begin_15 : decode cX1_begin 15 = .ok (.baload, 1) := by decide +kernel
theorem dX1_begin_16 : decode cX1_begin 16 = .ok (.ifCond .eq 6, 3) := by decide +kernel
theorem dX1_begin_19 : decode cX1_begin 19 = .ok (.bipush (-2), 2) := by decide +kernel
theorem dX1_begin_21 : decode cX1_begin 21 = .ok (.ireturn, 1) := by decide +kernel
theorem dX1_begin_22 : decode cX1_begin 22 = .ok (.aload_n 0, 1) := by decide +kernel
theorem dX1_begin_23 : decode cX1_begin 23 = .ok (.getfield 24, 3) := by decide +kernel
theorem dX1_begin_26 : decode cX1_begin 26 = .ok (.iload_n 1, 1) := by decide +kernel
theorem dX1_begin_27 : decode cX1_begin 27 = .ok (.iconst 1, 1) := by decide +kernel
theorem dX1_begin_28 : decode cX1_begin 28 = .ok (.bastore, 1) := by decide +kernel
theorem dX1_begin_29 : decode cX1_begin 29 = .ok (.aload_n 0, 1) := by decide +kernel
theorem dX1_begin_30 : decode cX1_begin 30 = .ok (.getfield 33, 3) := by decide +kernel
theorem dX1_begin_33 : decode cX1_begin 33 = .ok (.iload_n 1, 1) := by decide +kernel
theorem dX1_begin_34 : decode cX1_begin 34 = .ok (.iconst 0, 1) := by decide +kernel
theorem dX1_begin_35 : decode cX1_begin 35 = .ok (.iastore, 1) := by decide +kernel
theorem dX1_begin_36 : decode cX1_begin 36 = .ok (.aload_n 0, 1) := by decide +kernel
theorem dX1_begin_37 : decode cX1_begin 37 = .ok (.getfield 36, 3) := by decide +kernel
theorem dX1_begin_40 : decode cX1_begin 40 = .ok (.iload_n 1, 1) := by decide +kernel
theorem dX1_begin_41 : decode cX1_begin 41 = .ok (.iconst 0, 1) := by decide +kernel
theorem dX1_begin_42 : decode cX1_begin 42 = .ok (.iastore, 1) := by decide +kernel
theorem dX1_begin_43 : decode cX1_begin 43 = .ok (.aload_n 0, 1) := by decide +kernel
theorem dX1_begin_44 : decode cX1_begin 44 = .ok (.getfield 39, 3) := by decide +kernel
theorem dX1_begin_47 : decode cX1_begin 47 = .ok (.iload_n 1, 1) := by decide +kernel
theorem dX1_begin_48 : decode cX1_begin 48 = .ok (.iconst 0, 1) := by decide +kernel
theorem dX1_begin_49 : decode cX1_begin 49 = .ok (.iastore, 1) := by decide +kernel
theorem dX1_begin_50 : decode cX1_begin 50 = .ok (.iconst 0, 1) := by decide +kernel
theorem dX1_begin_51 : decode cX1_begin 51 = .ok (.istore_n 2, 1) := by decide +kernel
theorem dX1_begin_52 : decode cX1_begin 52 = .ok (.iload_n 2, 1) := by decide +kernel
theorem dX1_begin_53 : decode cX1_begin 53 = .ok (.bipush 32, 2) := by decide +kernel
theorem dX1_begin_55 : decode cX1_begin 55 = .ok (.if_icmp .ge 65, 3) := by decide +kernel
theorem dX1_begin_58 : decode cX1_begin 58 = .ok (.aload_n 0, 1) := by decide +kernel
theorem dX1_begin_59 : decode cX1_begin 59 = .ok (.getfield 27, 3) := by decide +kernel
theorem dX1_begin_62 : decode cX1_begin 62 = .ok (.bipush 32, 2) := by decide +kernel
theorem dX1_begin_64 : decode cX1_begin 64 = .ok (.iload_n 1, 1) := by decide +kernel
theorem dX1_begin_65 : decode cX1_begin 65 = .ok (.imul, 1) := by decide +kernel
theorem dX1_begin_66 : decode cX1_begin 66 = .ok (.iload_n 2, 1) := by decide +kernel
theorem dX1_begin_67 : decode cX1_begin 67 = .ok (.iadd, 1) := by decide +kernel
theorem dX1_begin_68 : decode cX1_begin 68 = .ok (.aload_n 0, 1) := by decide +kernel
theorem dX1_begin_69 : decode cX1_begin 69 = .ok (.getfield 13, 3) := by decide +kernel
theorem dX1_begin_72 : decode cX1_begin 72 = .ok (.bipush 32, 2) := by decide +kernel
theorem dX1_begin_74 : decode cX1_begin 74 = .ok (.aload_n 0, 1) := by decide +kernel
theorem dX1_begin_75 : decode cX1_begin 75 = .ok (.getfield 7, 3) := by decide +kernel
theorem dX1_begin_78 : decode cX1_begin 78 = .ok (.bipush 6, 2) := by decide +kernel
theorem dX1_begin_80 : decode cX1_begin 80 = .ok (.irem, 1) := by decide +kernel
theorem dX1_begin_81 : decode cX1_begin 81 = .ok (.imul, 1) := by decide +kernel
theorem dX1_begin_82 : decode cX1_begin 82 = .ok (.iload_n 2, 1) := by decide +kernel
theorem dX1_begin_83 : decode cX1_begin 83 = .ok (.iadd, 1) := by decide +kernel
theorem dX1_begin_84 : decode cX1_begin 84 = .ok (.baload, 1) := by decide +kernel
theorem dX1_begin_85 : decode cX1_begin 85 = .ok (.bastore, 1) := by decide +kernel
theorem dX1_begin_86 : decode cX1_begin 86 = .ok (.aload_n 0, 1) := by decide +kernel
theorem dX1_begin_87 : decode cX1_begin 87 = .ok (.getfield 30, 3) := by decide +kernel
theorem dX1_begin_90 : decode cX1_begin 90 = .ok (.bipush 32, 2) := by decide +kernel
theorem dX1_begin_92 : decode cX1_begin 92 = .ok (.iload_n 1, 1) := by decide +kernel
theorem dX1_begin_93 : decode cX1_begin 93 = .ok (.imul, 1) := by decide +kernel
theorem dX1_begin_94 : decode cX1_begin 94 = .ok (.iload_n 2, 1) := by decide +kernel
theorem dX1_begin_95 : decode cX1_begin 95 = .ok (.iadd, 1) := by decide +kernel
theorem dX1_begin_96 : decode cX1_begin 96 = .ok (.aload_n 0, 1) := by decide +kernel
theorem dX1_begin_97 : decode cX1_begin 97 = .ok (.getfield 17, 3) := by decide +kernel
theorem dX1_begin_100 : decode cX1_begin 100 = .ok (.bipush 32, 2) := by decide +kernel
theorem dX1_begin_102 : decode cX1_begin 102 = .ok (.aload_n 0, 1) := by decide +kernel
theorem dX1_begin_103 : decode cX1_begin 103 = .ok (.getfield 7, 3) := by decide +kernel
theorem dX1_begin_106 : decode cX1_begin 106 = .ok (.bipush 6, 2) := by decide +kernel
theorem dX1_begin_108 : decode cX1_begin 108 = .ok (.irem, 1) := by decide +kernel
theorem dX1_begin_109 : decode cX1_begin 109 = .ok (.imul, 1) := by decide +kernel
theorem dX1_begin_110 : decode cX1_begin 110 = .ok (.iload_n 2, 1) := by decide +kernel
theorem dX1_begin_111 : decode cX1_begin 111 = .ok (.iadd, 1) := by decide +kernel
theorem dX1_begin_112 : decode cX1_begin 112 = .ok (.iaload, 1) := by decide +kernel
theorem dX1_begin_113 : decode cX1_begin 113 = .ok (.iastore, 1) := by decide +kernel
theorem dX1_begin_114 : decode cX1_begin 114 = .ok (.iinc 2 1, 3) := by decide +kernel
theorem dX1_begin_117 : decode cX1_begin 117 = .ok (.goto (-65), 3) := by decide +kernel
theorem dX1_begin_120 : decode cX1_begin 120 = .ok (.aload_n 0, 1) := by decide +kernel
theorem dX1_begin_121 : decode cX1_begin 121 = .ok (.getfield 7, 3) := by decide +kernel
theorem dX1_begin_124 : decode cX1_begin 124 = .ok (.ireturn, 1) := by decide +kernel
theorem dX1_isTransaction_0 : decode cX1_isTransaction 0 = .ok (.iload_n 1, 1) := by decide +kernel
theorem dX1_isTransaction_1 : decode cX1_isTransaction 1 = .ok (.ifCond .lt 12, 3) := by decide +kernel
theorem dX1_isTransaction_4 : decode cX1_isTransaction 4 = .ok (.iload_n 1, 1) := by decide +kernel
theorem dX1_isTransaction_5 : decode cX1_isTransaction 5 = .ok (.iconst 3, 1) := by decide +kernel
theorem dX1_isTransaction_6 : decode cX1_isTransaction 6 = .ok (.if_icmp .gt 7, 3) := by decide +kernel
theorem dX1_isTransaction_9 : decode cX1_isTransaction 9 = .ok (.iconst 1, 1) := by decide +kernel
theorem dX1_isTransaction_10 : decode cX1_isTransaction 10 = .ok (.goto 4, 3) := by decide +kernel
theorem dX1_isTransaction_13 : decode cX1_isTransaction 13 = .ok (.iconst 0, 1) := by decide +kernel
theorem dX1_isTransaction_14 : decode cX1_isTransaction 14 = .ok (.ireturn, 1) := by decide +kernel
theorem dX1_write_0 : decode cX1_write 0 = .ok (.aload_n 0, 1) := by decide +kernel
theorem dX1_write_1 : decode cX1_write 1 = .ok (.iload_n 1, 1) := by decide +kernel
theorem dX1_write_2 : decode cX1_write 2 = .ok (.iload_n 2, 1) := by decide +kernel
theorem dX1_write_3 : decode cX1_write 3 = .ok (.iconst 1, 1) := by decide +kernel
theorem dX1_write_4 : decode cX1_write 4 = .ok (.iload_n 3, 1) := by decide +kernel
theorem dX1_write_5 : decode cX1_write 5 = .ok (.invokevirtual 57, 3) := by decide +kernel
theorem dX1_write_8 : decode cX1_write 8 = .ok (.ireturn, 1) := by decide +kernel
theorem dX1_give_0 : decode cX1_give 0 = .ok (.aload_n 0, 1) := by decide +kernel
theorem dX1_give_1 : decode cX1_give 1 = .ok (.iload_n 1, 1) := by decide +kernel
theorem dX1_give_2 : decode cX1_give 2 = .ok (.invokevirtual 46, 3) := by decide +kernel
theorem dX1_give_5 : decode cX1_give 5 = .ok (.ifCond .eq 11, 3) := by decide +kernel
theorem dX1_give_8 : decode cX1_give 8 = .ok (.aload_n 0, 1) := by decide +kernel
theorem dX1_give_9 : decode cX1_give 9 = .ok (.iload_n 2, 1) := by decide +kernel
theorem dX1_give_10 : decode cX1_give 10 = .ok (.invokevirtual 50, 3) := by decide +kernel
theorem dX1_give_13 : decode cX1_give 13 = .ok (.ifCond .ne 5, 3) := by decide +kernel
theorem dX1_give_16 : decode cX1_give 16 = .ok (.iconst (-1), 1) := by decide +kernel
theorem dX1_give_17 : decode cX1_give 17 = .ok (.ireturn, 1) := by decide +kernel
theorem dX1_give_18 : decode cX1_give 18 = .ok (.aload_n 0, 1) := by decide +kernel
theorem dX1_give_19 : decode cX1_give 19 = .ok (.getfield 24, 3) := by decide +kernel
theorem dX1_give_22 : decode cX1_give 22 = .ok (.iload_n 1, 1) := by decide +kernel
theorem dX1_give_23 : decode cX1_give 23 = .ok (.baload, 1) := by decide +kernel
theorem dX1_give_24 : decode cX1_give 24 = .ok (.ifCond .ne 6, 3) := by decide +kernel
theorem dX1_give_27 : decode cX1_give 27 = .ok (.bipush (-3), 2) := by decide +kernel
theorem dX1_give_29 : decode cX1_give 29 = .ok (.ireturn, 1) := by decide +kernel
theorem dX1_give_30 : decode cX1_give 30 = .ok (.aload_n 0, 1) := by decide +kernel
theorem dX1_give_31 : decode cX1_give 31 = .ok (.aload_n 0, 1) := by decide +kernel
theorem dX1_give_32 : decode cX1_give 32 = .ok (.getfield 33, 3) := by decide +kernel
theorem dX1_give_35 : decode cX1_give 35 = .ok (.iload_n 1, 1) := by decide +kernel
theorem dX1_give_36 : decode cX1_give 36 = .ok (.iaload, 1) := by decide +kernel
theorem dX1_give_37 : decode cX1_give 37 = .ok (.invokevirtual 53, 3) := by decide +kernel
theorem dX1_give_40 : decode cX1_give 40 = .ok (.istore 5, 2) := by decide +kernel
theorem dX1_give_42 : decode cX1_give 42 = .ok (.aload_n 0, 1) := by decide +kernel
theorem dX1_give_43 : decode cX1_give 43 = .ok (.aload_n 0, 1) := by decide +kernel
theorem dX1_give_44 : decode cX1_give 44 = .ok (.getfield 33, 3) := by decide +kernel
theorem dX1_give_47 : decode cX1_give 47 = .ok (.iload_n 1, 1) := by decide +kernel
theorem dX1_give_48 : decode cX1_give 48 = .ok (.iaload, 1) := by decide +kernel
theorem dX1_give_49 : decode cX1_give 49 = .ok (.iload_n 2, 1) := by decide +kernel
theorem dX1_give_50 : decode cX1_give 50 = .ok (.invokevirtual 42, 3) := by decide +kernel
theorem dX1_give_53 : decode cX1_give 53 = .ok (.ifCond .ne 13, 3) := by decide +kernel
theorem dX1_give_56 : decode cX1_give 56 = .ok (.iload 5, 2) := by decide +kernel
theorem dX1_give_58 : decode cX1_give 58 = .ok (.bipush 6, 2) := by decide +kernel
theorem dX1_give_60 : decode cX1_give 60 = .ok (.if_icmp .ne 6, 3) := by decide +kernel
theorem dX1_give_63 : decode cX1_give 63 = .ok (.bipush (-4), 2) := by decide +kernel
theorem dX1_give_65 : decode cX1_give 65 = .ok (.ireturn, 1) := by decide +kernel
theorem dX1_give_66 : decode cX1_give 66 = .ok (.aload_n 0, 1) := by decide +kernel
theorem dX1_give_67 : decode cX1_give 67 = .ok (.getfield 33, 3) := by decide +kernel
theorem dX1_give_70 : decode cX1_give 70 = .ok (.iload_n 1, 1) := by decide +kernel
theorem dX1_give_71 : decode cX1_give 71 = .ok (.aload_n 0, 1) := by decide +kernel
theorem dX1_give_72 : decode cX1_give 72 = .ok (.getfield 33, 3) := by decide +kernel
theorem dX1_give_75 : decode cX1_give 75 = .ok (.iload_n 1, 1) := by decide +kernel
theorem dX1_give_76 : decode cX1_give 76 = .ok (.iaload, 1) := by decide +kernel
theorem dX1_give_77 : decode cX1_give 77 = .ok (.iconst 1, 1) := by decide +kernel
theorem dX1_give_78 : decode cX1_give 78 = .ok (.iload_n 2, 1) := by decide +kernel
theorem dX1_give_79 : decode cX1_give 79 = .ok (.ishl, 1) := by decide +kernel
theorem dX1_give_80 : decode cX1_give 80 = .ok (.ior, 1) := by decide +kernel
theorem dX1_give_81 : decode cX1_give 81 = .ok (.iastore, 1) := by decide +kernel
theorem dX1_give_82 : decode cX1_give 82 = .ok (.aload_n 0, 1) := by decide +kernel
theorem dX1_give_83 : decode cX1_give 83 = .ok (.getfield 27, 3) := by decide +kernel
theorem dX1_give_86 : decode cX1_give 86 = .ok (.bipush 32, 2) := by decide +kernel
theorem dX1_give_88 : decode cX1_give 88 = .ok (.iload_n 1, 1) := by decide +kernel
theorem dX1_give_89 : decode cX1_give 89 = .ok (.imul, 1) := by decide +kernel
theorem dX1_give_90 : decode cX1_give 90 = .ok (.iload_n 2, 1) := by decide +kernel
theorem dX1_give_91 : decode cX1_give 91 = .ok (.iadd, 1) := by decide +kernel
theorem dX1_give_92 : decode cX1_give 92 = .ok (.iload_n 3, 1) := by decide +kernel
theorem dX1_give_93 : decode cX1_give 93 = .ok (.bastore, 1) := by decide +kernel
theorem dX1_give_94 : decode cX1_give 94 = .ok (.aload_n 0, 1) := by decide +kernel
theorem dX1_give_95 : decode cX1_give 95 = .ok (.getfield 30, 3) := by decide +kernel
theorem dX1_give_98 : decode cX1_give 98 = .ok (.bipush 32, 2) := by decide +kernel
theorem dX1_give_100 : decode cX1_give 100 = .ok (.iload_n 1, 1) := by decide +kernel
theorem dX1_give_101 : decode cX1_give 101 = .ok (.imul, 1) := by decide +kernel
theorem dX1_give_102 : decode cX1_give 102 = .ok (.iload_n 2, 1) := by decide +kernel
theorem dX1_give_103 : decode cX1_give 103 = .ok (.iadd, 1) := by decide +kernel
theorem dX1_give_104 : decode cX1_give 104 = .ok (.iload 4, 2) := by decide +kernel
theorem dX1_give_106 : decode cX1_give 106 = .ok (.iastore, 1) := by decide +kernel
theorem dX1_give_107 : decode cX1_give 107 = .ok (.aload_n 0, 1) := by decide +kernel
theorem dX1_give_108 : decode cX1_give 108 = .ok (.aload_n 0, 1) := by decide +kernel
theorem dX1_give_109 : decode cX1_give 109 = .ok (.getfield 33, 3) := by decide +kernel
theorem dX1_give_112 : decode cX1_give 112 = .ok (.iload_n 1, 1) := by decide +kernel
theorem dX1_give_113 : decode cX1_give 113 = .ok (.iaload, 1) := by decide +kernel
theorem dX1_give_114 : decode cX1_give 114 = .ok (.invokevirtual 53, 3) := by decide +kernel
theorem dX1_give_117 : decode cX1_give 117 = .ok (.ireturn, 1) := by decide +kernel
theorem dX1_isKey_0 : decode cX1_isKey 0 = .ok (.iload_n 1, 1) := by decide +kernel
theorem dX1_isKey_1 : decode cX1_isKey 1 = .ok (.ifCond .lt 13, 3) := by decide +kernel
theorem dX1_isKey_4 : decode cX1_isKey 4 = .ok (.iload_n 1, 1) := by decide +kernel
theorem dX1_isKey_5 : decode cX1_isKey 5 = .ok (.bipush 31, 2) := by decide +kernel
theorem dX1_isKey_7 : decode cX1_isKey 7 = .ok (.if_icmp .gt 7, 3) := by decide +kernel
theorem dX1_isKey_10 : decode cX1_isKey 10 = .ok (.iconst 1, 1) := by decide +kernel
theorem dX1_isKey_11 : decode cX1_isKey 11 = .ok (.goto 4, 3) := by decide +kernel
theorem dX1_isKey_14 : decode cX1_isKey 14 = .ok (.iconst 0, 1) := by decide +kernel
theorem dX1_isKey_15 : decode cX1_isKey 15 = .ok (.ireturn, 1) := by decide +kernel
theorem dX1_sizeOf_0 : decode cX1_sizeOf 0 = .ok (.iconst 0, 1) := by decide +kernel
theorem dX1_sizeOf_1 : decode cX1_sizeOf 1 = .ok (.istore_n 2, 1) := by decide +kernel
theorem dX1_sizeOf_2 : decode cX1_sizeOf 2 = .ok (.iconst 0, 1) := by decide +kernel
theorem dX1_sizeOf_3 : decode cX1_sizeOf 3 = .ok (.istore_n 3, 1) := by decide +kernel
theorem dX1_sizeOf_4 : decode cX1_sizeOf 4 = .ok (.iload_n 3, 1) := by decide +kernel
theorem dX1_sizeOf_5 : decode cX1_sizeOf 5 = .ok (.bipush 32, 2) := by decide +kernel
theorem dX1_sizeOf_7 : decode cX1_sizeOf 7 = .ok (.if_icmp .ge 21, 3) := by decide +kernel
theorem dX1_sizeOf_10 : decode cX1_sizeOf 10 = .ok (.aload_n 0, 1) := by decide +kernel
theorem dX1_sizeOf_11 : decode cX1_sizeOf 11 = .ok (.iload_n 1, 1) := by decide +kernel
theorem dX1_sizeOf_12 : decode cX1_sizeOf 12 = .ok (.iload_n 3, 1) := by decide +kernel
theorem dX1_sizeOf_13 : decode cX1_sizeOf 13 = .ok (.invokevirtual 42, 3) := by decide +kernel
theorem dX1_sizeOf_16 : decode cX1_sizeOf 16 = .ok (.ifCond .eq 6, 3) := by decide +kernel
theorem dX1_sizeOf_19 : decode cX1_sizeOf 19 = .ok (.iinc 2 1, 3) := by decide +kernel
theorem dX1_sizeOf_22 : decode cX1_sizeOf 22 = .ok (.iinc 3 1, 3) := by decide +kernel
theorem dX1_sizeOf_25 : decode cX1_sizeOf 25 = .ok (.goto (-21), 3) := by decide +kernel
theorem dX1_sizeOf_28 : decode cX1_sizeOf 28 = .ok (.iload_n 2, 1) := by decide +kernel
theorem dX1_sizeOf_29 : decode cX1_sizeOf 29 = .ok (.ireturn, 1) := by decide +kernel
theorem dX1_in_0 : decode cX1_in 0 = .ok (.iload_n 1, 1) := by decide +kernel
theorem dX1_in_1 : decode cX1_in 1 = .ok (.iload_n 2, 1) := by decide +kernel
theorem dX1_in_2 : decode cX1_in 2 = .ok (.iushr, 1) := by decide +kernel
theorem dX1_in_3 : decode cX1_in 3 = .ok (.iconst 1, 1) := by decide +kernel
theorem dX1_in_4 : decode cX1_in 4 = .ok (.iand, 1) := by decide +kernel
theorem dX1_in_5 : decode cX1_in 5 = .ok (.iconst 1, 1) := by decide +kernel
theorem dX1_in_6 : decode cX1_in 6 = .ok (.if_icmp .ne 7, 3) := by decide +kernel
theorem dX1_in_9 : decode cX1_in 9 = .ok (.iconst 1, 1) := by decide +kernel
theorem dX1_in_10 : decode cX1_in 10 = .ok (.goto 4, 3) := by decide +kernel
theorem dX1_in_13 : decode cX1_in 13 = .ok (.iconst 0, 1) := by decide +kernel
theorem dX1_in_14 : decode cX1_in 14 = .ok (.ireturn, 1) := by decide +kernel
theorem dX1_erase_0 : decode cX1_erase 0 = .ok (.aload_n 0, 1) := by decide +kernel
theorem dX1_erase_1 : decode cX1_erase 1 = .ok (.iload_n 1, 1) := by decide +kernel
theorem dX1_erase_2 : decode cX1_erase 2 = .ok (.iload_n 2, 1) := by decide +kernel
theorem dX1_erase_3 : decode cX1_erase 3 = .ok (.iconst 0, 1) := by decide +kernel
theorem dX1_erase_4 : decode cX1_erase 4 = .ok (.iconst 0, 1) := by decide +kernel
theorem dX1_erase_5 : decode cX1_erase 5 = .ok (.invokevirtual 57, 3) := by decide +kernel
theorem dX1_erase_8 : decode cX1_erase 8 = .ok (.ireturn, 1) := by decide +kernel
theorem dX1_read_0 : decode cX1_read 0 = .ok (.aload_n 0, 1) := by decide +kernel
theorem dX1_read_1 : decode cX1_read 1 = .ok (.iload_n 1, 1) := by decide +kernel
theorem dX1_read_2 : decode cX1_read 2 = .ok (.invokevirtual 46, 3) := by decide +kernel
theorem dX1_read_5 : decode cX1_read 5 = .ok (.ifCond .eq 11, 3) := by decide +kernel
theorem dX1_read_8 : decode cX1_read 8 = .ok (.aload_n 0, 1) := by decide +kernel
theorem dX1_read_9 : decode cX1_read 9 = .ok (.iload_n 2, 1) := by decide +kernel
theorem dX1_read_10 : decode cX1_read 10 = .ok (.invokevirtual 50, 3) := by decide +kernel
theorem dX1_read_13 : decode cX1_read 13 = .ok (.ifCond .ne 5, 3) := by decide +kernel
theorem dX1_read_16 : decode cX1_read 16 = .ok (.iconst (-1), 1) := by decide +kernel
theorem dX1_read_17 : decode cX1_read 17 = .ok (.ireturn, 1) := by decide +kernel
theorem dX1_read_18 : decode cX1_read 18 = .ok (.aload_n 0, 1) := by decide +kernel
theorem dX1_read_19 : decode cX1_read 19 = .ok (.getfield 24, 3) := by decide +kernel
theorem dX1_read_22 : decode cX1_read 22 = .ok (.iload_n 1, 1) := by decide +kernel
theorem dX1_read_23 : decode cX1_read 23 = .ok (.baload, 1) := by decide +kernel
theorem dX1_read_24 : decode cX1_read 24 = .ok (.ifCond .ne 6, 3) := by decide +kernel
theorem dX1_read_27 : decode cX1_read 27 = .ok (.bipush (-3), 2) := by decide +kernel
theorem dX1_read_29 : decode cX1_read 29 = .ok (.ireturn, 1) := by decide +kernel
theorem dX1_read_30 : decode cX1_read 30 = .ok (.aload_n 0, 1) := by decide +kernel
theorem dX1_read_31 : decode cX1_read 31 = .ok (.getfield 36, 3) := by decide +kernel
theorem dX1_read_34 : decode cX1_read 34 = .ok (.iload_n 1, 1) := by decide +kernel
theorem dX1_read_35 : decode cX1_read 35 = .ok (.aload_n 0, 1) := by decide +kernel
theorem dX1_read_36 : decode cX1_read 36 = .ok (.getfield 36, 3) := by decide +kernel
theorem dX1_read_39 : decode cX1_read 39 = .ok (.iload_n 1, 1) := by decide +kernel
theorem dX1_read_40 : decode cX1_read 40 = .ok (.iaload, 1) := by decide +kernel
theorem dX1_read_41 : decode cX1_read 41 = .ok (.iconst 1, 1) := by decide +kernel
theorem dX1_read_42 : decode cX1_read 42 = .ok (.iload_n 2, 1) := by decide +kernel
theorem dX1_read_43 : decode cX1_read 43 = .ok (.ishl, 1) := by decide +kernel
theorem dX1_read_44 : decode cX1_read 44 = .ok (.ior, 1) := by decide +kernel
theorem dX1_read_45 : decode cX1_read 45 = .ok (.iastore, 1) := by decide +kernel
theorem dX1_read_46 : decode cX1_read 46 = .ok (.aload_n 0, 1) := by decide +kernel
theorem dX1_read_47 : decode cX1_read 47 = .ok (.getfield 27, 3) := by decide +kernel
theorem dX1_read_50 : decode cX1_read 50 = .ok (.bipush 32, 2) := by decide +kernel
theorem dX1_read_52 : decode cX1_read 52 = .ok (.iload_n 1, 1) := by decide +kernel
theorem dX1_read_53 : decode cX1_read 53 = .ok (.imul, 1) := by decide +kernel
theorem dX1_read_54 : decode cX1_read 54 = .ok (.iload_n 2, 1) := by decide +kernel
theorem dX1_read_55 : decode cX1_read 55 = .ok (.iadd, 1) := by decide +kernel
theorem dX1_read_56 : decode cX1_read 56 = .ok (.baload, 1) := by decide +kernel
theorem dX1_read_57 : decode cX1_read 57 = .ok (.ifCond .eq 7, 3) := by decide +kernel
theorem dX1_read_60 : decode cX1_read 60 = .ok (.iconst 1, 1) := by decide +kernel
theorem dX1_read_61 : decode cX1_read 61 = .ok (.goto 4, 3) := by decide +kernel
theorem dX1_read_64 : decode cX1_read 64 = .ok (.iconst 0, 1) := by decide +kernel
theorem dX1_read_65 : decode cX1_read 65 = .ok (.ireturn, 1) := by decide +kernel
theorem dX1_peek_0 : decode cX1_peek 0 = .ok (.aload_n 0, 1) := by decide +kernel
theorem dX1_peek_1 : decode cX1_peek 1 = .ok (.iload_n 1, 1) := by decide +kernel
theorem dX1_peek_2 : decode cX1_peek 2 = .ok (.invokevirtual 46, 3) := by decide +kernel
theorem dX1_peek_5 : decode cX1_peek 5 = .ok (.ifCond .eq 20, 3) := by decide +kernel
theorem dX1_peek_8 : decode cX1_peek 8 = .ok (.aload_n 0, 1) := by decide +kernel
theorem dX1_peek_9 : decode cX1_peek 9 = .ok (.iload_n 2, 1) := by decide +kernel
theorem dX1_peek_10 : decode cX1_peek 10 = .ok (.invokevirtual 50, 3) := by decide +kernel
theorem dX1_peek_13 : decode cX1_peek 13 = .ok (.ifCond .eq 12, 3) := by decide +kernel
theorem dX1_peek_16 : decode cX1_peek 16 = .ok (.aload_n 0, 1) := by decide +kernel
theorem dX1_peek_17 : decode cX1_peek 17 = .ok (.getfield 24, 3) := by decide +kernel
theorem dX1_peek_20 : decode cX1_peek 20 = .ok (.iload_n 1, 1) := by decide +kernel
theorem dX1_peek_21 : decode cX1_peek 21 = .ok (.baload, 1) := by decide +kernel
theorem dX1_peek_22 : decode cX1_peek 22 = .ok (.ifCond .ne 5, 3) := by decide +kernel
theorem dX1_peek_25 : decode cX1_peek 25 = .ok (.iconst 0, 1) := by decide +kernel
theorem dX1_peek_26 : decode cX1_peek 26 = .ok (.ireturn, 1) := by decide +kernel
theorem dX1_peek_27 : decode cX1_peek 27 = .ok (.aload_n 0, 1) := by decide +kernel
theorem dX1_peek_28 : decode cX1_peek 28 = .ok (.getfield 27, 3) := by decide +kernel
theorem dX1_peek_31 : decode cX1_peek 31 = .ok (.bipush 32, 2) := by decide +kernel
theorem dX1_peek_33 : decode cX1_peek 33 = .ok (.iload_n 1, 1) := by decide +kernel
theorem dX1_peek_34 : decode cX1_peek 34 = .ok (.imul, 1) := by decide +kernel
theorem dX1_peek_35 : decode cX1_peek 35 = .ok (.iload_n 2, 1) := by decide +kernel
theorem dX1_peek_36 : decode cX1_peek 36 = .ok (.iadd, 1) := by decide +kernel
theorem dX1_peek_37 : decode cX1_peek 37 = .ok (.baload, 1) := by decide +kernel
theorem dX1_peek_38 : decode cX1_peek 38 = .ok (.ifCond .eq 17, 3) := by decide +kernel
theorem dX1_peek_41 : decode cX1_peek 41 = .ok (.aload_n 0, 1) := by decide +kernel
theorem dX1_peek_42 : decode cX1_peek 42 = .ok (.getfield 30, 3) := by decide +kernel
theorem dX1_peek_45 : decode cX1_peek 45 = .ok (.bipush 32, 2) := by decide +kernel
theorem dX1_peek_47 : decode cX1_peek 47 = .ok (.iload_n 1, 1) := by decide +kernel
theorem dX1_peek_48 : decode cX1_peek 48 = .ok (.imul, 1) := by decide +kernel
theorem dX1_peek_49 : decode cX1_peek 49 = .ok (.iload_n 2, 1) := by decide +kernel
theorem dX1_peek_50 : decode cX1_peek 50 = .ok (.iadd, 1) := by decide +kernel
theorem dX1_peek_51 : decode cX1_peek 51 = .ok (.iaload, 1) := by decide +kernel
theorem dX1_peek_52 : decode cX1_peek 52 = .ok (.goto 4, 3) := by decide +kernel
theorem dX1_peek_55 : decode cX1_peek 55 = .ok (.iconst 0, 1) := by decide +kernel
theorem dX1_peek_56 : decode cX1_peek 56 = .ok (.ireturn, 1) := by decide +kernel
theorem dX1_countRange_0 : decode cX1_countRange 0 = .ok (.aload_n 0, 1) := by decide +kernel
theorem dX1_countRange_1 : decode cX1_countRange 1 = .ok (.iload_n 1, 1) := by decide +kernel
theorem dX1_countRange_2 : decode cX1_countRange 2 = .ok (.invokevirtual 46, 3) := by decide +kernel
theorem dX1_countRange_5 : decode cX1_countRange 5 = .ok (.ifCond .eq 24, 3) := by decide +kernel
theorem dX1_countRange_8 : decode cX1_countRange 8 = .ok (.aload_n 0, 1) := by decide +kernel
theorem dX1_countRange_9 : decode cX1_countRange 9 = .ok (.iload_n 2, 1) := by decide +kernel
theorem dX1_countRange_10 : decode cX1_countRange 10 = .ok (.invokevirtual 50, 3) := by decide +kernel
theorem dX1_countRange_13 : decode cX1_countRange 13 = .ok (.ifCond .eq 16, 3) := by decide +kernel
theorem dX1_countRange_16 : decode cX1_countRange 16 = .ok (.aload_n 0, 1) := by decide +kernel
theorem dX1_countRange_17 : decode cX1_countRange 17 = .ok (.iload_n 3, 1) := by decide +kernel
theorem dX1_countRange_18 : decode cX1_countRange 18 = .ok (.invokevirtual 50, 3) := by decide +kernel
theorem dX1_countRange_21 : decode cX1_countRange 21 = .ok (.ifCond .eq 8, 3) := by decide +kernel
theorem dX1_countRange_24 : decode cX1_countRange 24 = .ok (.iload_n 2, 1) := by decide +kernel
theorem dX1_countRange_25 : decode cX1_countRange 25 = .ok (.iload_n 3, 1) := by decide +kernel
theorem dX1_countRange_26 : decode cX1_countRange 26 = .ok (.if_icmp .le 5, 3) := by decide +kernel
theorem dX1_countRange_29 : decode cX1_countRange 29 = .ok (.iconst (-1), 1) := by decide +kernel
theorem dX1_countRange_30 : decode cX1_countRange 30 = .ok (.ireturn, 1) := by decide +kernel
theorem dX1_countRange_31 : decode cX1_countRange 31 = .ok (.aload_n 0, 1) := by decide +kernel
theorem dX1_countRange_32 : decode cX1_countRange 32 = .ok (.getfield 24, 3) := by decide +kernel
theorem dX1_countRange_35 : decode cX1_countRange 35 = .ok (.iload_n 1, 1) := by decide +kernel
theorem dX1_countRange_36 : decode cX1_countRange 36 = .ok (.baload, 1) := by decide +kernel
theorem dX1_countRange_37 : decode cX1_countRange 37 = .ok (.ifCond .ne 6, 3) := by decide +kernel
theorem dX1_countRange_40 : decode cX1_countRange 40 = .ok (.bipush (-3), 2) := by decide +kernel
theorem dX1_countRange_42 : decode cX1_countRange 42 = .ok (.ireturn, 1) := by decide +kernel
theorem dX1_countRange_43 : decode cX1_countRange 43 = .ok (.iconst 0, 1) := by decide +kernel
theorem dX1_countRange_44 : decode cX1_countRange 44 = .ok (.istore 4, 2) := by decide +kernel
theorem dX1_countRange_46 : decode cX1_countRange 46 = .ok (.iload_n 2, 1) := by decide +kernel
theorem dX1_countRange_47 : decode cX1_countRange 47 = .ok (.istore 5, 2) := by decide +kernel
theorem dX1_countRange_49 : decode cX1_countRange 49 = .ok (.iload 5, 2) := by decide +kernel
theorem dX1_countRange_51 : decode cX1_countRange 51 = .ok (.iload_n 3, 1) := by decide +kernel
theorem dX1_countRange_52 : decode cX1_countRange 52 = .ok (.if_icmp .gt 21, 3) := by decide +kernel
theorem dX1_countRange_55 : decode cX1_countRange 55 = .ok (.iload 4, 2) := by decide +kernel
theorem dX1_countRange_57 : decode cX1_countRange 57 = .ok (.aload_n 0, 1) := by decide +kernel
theorem dX1_countRange_58 : decode cX1_countRange 58 = .ok (.iload_n 1, 1) := by decide +kernel
theorem dX1_countRange_59 : decode cX1_countRange 59 = .ok (.iload 5, 2) := by decide +kernel
theorem dX1_countRange_61 : decode cX1_countRange 61 = .ok (.invokevirtual 61, 3) := by decide +kernel
theorem dX1_countRange_64 : decode cX1_countRange 64 = .ok (.iadd, 1) := by decide +kernel
theorem dX1_countRange_65 : decode cX1_countRange 65 = .ok (.istore 4, 2) := by decide +kernel
theorem dX1_countRange_67 : decode cX1_countRange 67 = .ok (.iinc 5 1, 3) := by decide +kernel
theorem dX1_countRange_70 : decode cX1_countRange 70 = .ok (.goto (-21), 3) := by decide +kernel
theorem dX1_countRange_73 : decode cX1_countRange 73 = .ok (.iload 4, 2) := by decide +kernel
theorem dX1_countRange_75 : decode cX1_countRange 75 = .ok (.ireturn, 1) := by decide +kernel
theorem dX1_commit_0 : decode cX1_commit 0 = .ok (.aload_n 0, 1) := by decide +kernel
theorem dX1_commit_1 : decode cX1_commit 1 = .ok (.iload_n 1, 1) := by decide +kernel
theorem dX1_commit_2 : decode cX1_commit 2 = .ok (.invokevirtual 46, 3) := by decide +kernel
theorem dX1_commit_5 : decode cX1_commit 5 = .ok (.ifCond .ne 5, 3) := by decide +kernel
theorem dX1_commit_8 : decode cX1_commit 8 = .ok (.iconst (-1), 1) := by decide +kernel
theorem dX1_commit_9 : decode cX1_commit 9 = .ok (.ireturn, 1) := by decide +kernel
theorem dX1_commit_10 : decode cX1_commit 10 = .ok (.aload_n 0, 1) := by decide +kernel
theorem dX1_commit_11 : decode cX1_commit 11 = .ok (.getfield 24, 3) := by decide +kernel
theorem dX1_commit_14 : decode cX1_commit 14 = .ok (.iload_n 1, 1) := by decide +kernel
theorem dX1_commit_15 : decode cX1_commit 15 = .ok (.baload, 1) := by decide +kernel
theorem dX1_commit_16 : decode cX1_commit 16 = .ok (.ifCond .ne 6, 3) := by decide +kernel
theorem dX1_commit_19 : decode cX1_commit 19 = .ok (.bipush (-3), 2) := by decide +kernel
theorem dX1_commit_21 : decode cX1_commit 21 = .ok (.ireturn, 1) := by decide +kernel
theorem dX1_commit_22 : decode cX1_commit 22 = .ok (.aload_n 0, 1) := by decide +kernel
theorem dX1_commit_23 : decode cX1_commit 23 = .ok (.getfield 24, 3) := by decide +kernel
theorem dX1_commit_26 : decode cX1_commit 26 = .ok (.iload_n 1, 1) := by decide +kernel
theorem dX1_commit_27 : decode cX1_commit 27 = .ok (.iconst 0, 1) := by decide +kernel
theorem dX1_commit_28 : decode cX1_commit 28 = .ok (.bastore, 1) := by decide +kernel
theorem dX1_commit_29 : decode cX1_commit 29 = .ok (.aload_n 0, 1) := by decide +kernel
theorem dX1_commit_30 : decode cX1_commit 30 = .ok (.getfield 36, 3) := by decide +kernel
theorem dX1_commit_33 : decode cX1_commit 33 = .ok (.iload_n 1, 1) := by decide +kernel
theorem dX1_commit_34 : decode cX1_commit 34 = .ok (.iaload, 1) := by decide +kernel
theorem dX1_commit_35 : decode cX1_commit 35 = .ok (.aload_n 0, 1) := by decide +kernel
theorem dX1_commit_36 : decode cX1_commit 36 = .ok (.getfield 39, 3) := by decide +kernel
theorem dX1_commit_39 : decode cX1_commit 39 = .ok (.iload_n 1, 1) := by decide +kernel
theorem dX1_commit_40 : decode cX1_commit 40 = .ok (.iaload, 1) := by decide +kernel
theorem dX1_commit_41 : decode cX1_commit 41 = .ok (.iand, 1) := by decide +kernel
theorem dX1_commit_42 : decode cX1_commit 42 = .ok (.ifCond .eq 6, 3) := by decide +kernel
theorem dX1_commit_45 : decode cX1_commit 45 = .ok (.bipush (-5), 2) := by decide +kernel
theorem dX1_commit_47 : decode cX1_commit 47 = .ok (.ireturn, 1) := by decide +kernel
theorem dX1_commit_48 : decode cX1_commit 48 = .ok (.bipush 32, 2) := by decide +kernel
theorem dX1_commit_50 : decode cX1_commit 50 = .ok (.aload_n 0, 1) := by decide +kernel
theorem dX1_commit_51 : decode cX1_commit 51 = .ok (.getfield 7, 3) := by decide +kernel
theorem dX1_commit_54 : decode cX1_commit 54 = .ok (.bipush 6, 2) := by decide +kernel
theorem dX1_commit_56 : decode cX1_commit 56 = .ok (.irem, 1) := by decide +kernel
theorem dX1_commit_57 : decode cX1_commit 57 = .ok (.imul, 1) := by decide +kernel
theorem dX1_commit_58 : decode cX1_commit 58 = .ok (.istore_n 2, 1) := by decide +kernel
theorem dX1_commit_59 : decode cX1_commit 59 = .ok (.aload_n 0, 1) := by decide +kernel
theorem dX1_commit_60 : decode cX1_commit 60 = .ok (.dup, 1) := by decide +kernel
theorem dX1_commit_61 : decode cX1_commit 61 = .ok (.getfield 7, 3) := by decide +kernel
theorem dX1_commit_64 : decode cX1_commit 64 = .ok (.iconst 1, 1) := by decide +kernel
theorem dX1_commit_65 : decode cX1_commit 65 = .ok (.iadd, 1) := by decide +kernel
theorem dX1_commit_66 : decode cX1_commit 66 = .ok (.putfield 7, 3) := by decide +kernel
theorem dX1_commit_69 : decode cX1_commit 69 = .ok (.bipush 32, 2) := by decide +kernel
theorem dX1_commit_71 : decode cX1_commit 71 = .ok (.aload_n 0, 1) := by decide +kernel
theorem dX1_commit_72 : decode cX1_commit 72 = .ok (.getfield 7, 3) := by decide +kernel
theorem dX1_commit_75 : decode cX1_commit 75 = .ok (.bipush 6, 2) := by decide +kernel
theorem dX1_commit_77 : decode cX1_commit 77 = .ok (.irem, 1) := by decide +kernel
theorem dX1_commit_78 : decode cX1_commit 78 = .ok (.imul, 1) := by decide +kernel
theorem dX1_commit_79 : decode cX1_commit 79 = .ok (.istore_n 3, 1) := by decide +kernel
theorem dX1_commit_80 : decode cX1_commit 80 = .ok (.iconst 0, 1) := by decide +kernel
theorem dX1_commit_81 : decode cX1_commit 81 = .ok (.istore 4, 2) := by decide +kernel
theorem dX1_commit_83 : decode cX1_commit 83 = .ok (.iload 4, 2) := by decide +kernel
theorem dX1_commit_85 : decode cX1_commit 85 = .ok (.bipush 32, 2) := by decide +kernel
theorem dX1_commit_87 : decode cX1_commit 87 = .ok (.if_icmp .ge 99, 3) := by decide +kernel
theorem dX1_commit_90 : decode cX1_commit 90 = .ok (.aload_n 0, 1) := by decide +kernel
theorem dX1_commit_91 : decode cX1_commit 91 = .ok (.aload_n 0, 1) := by decide +kernel
theorem dX1_commit_92 : decode cX1_commit 92 = .ok (.getfield 33, 3) := by decide +kernel
theorem dX1_commit_95 : decode cX1_commit 95 = .ok (.iload_n 1, 1) := by decide +kernel
theorem dX1_commit_96 : decode cX1_commit 96 = .ok (.iaload, 1) := by decide +kernel
theorem dX1_commit_97 : decode cX1_commit 97 = .ok (.iload 4, 2) := by decide +kernel
theorem dX1_commit_99 : decode cX1_commit 99 = .ok (.invokevirtual 42, 3) := by decide +kernel
theorem dX1_commit_102 : decode cX1_commit 102 = .ok (.istore 5, 2) := by decide +kernel
theorem dX1_commit_104 : decode cX1_commit 104 = .ok (.aload_n 0, 1) := by decide +kernel
theorem dX1_commit_105 : decode cX1_commit 105 = .ok (.getfield 13, 3) := by decide +kernel
theorem dX1_commit_108 : decode cX1_commit 108 = .ok (.iload_n 3, 1) := by decide +kernel
theorem dX1_commit_109 : decode cX1_commit 109 = .ok (.iload 4, 2) := by decide +kernel
theorem dX1_commit_111 : decode cX1_commit 111 = .ok (.iadd, 1) := by decide +kernel
theorem dX1_commit_112 : decode cX1_commit 112 = .ok (.iload 5, 2) := by decide +kernel
theorem dX1_commit_114 : decode cX1_commit 114 = .ok (.ifCond .eq 18, 3) := by decide +kernel
theorem dX1_commit_117 : decode cX1_commit 117 = .ok (.aload_n 0, 1) := by decide +kernel
theorem dX1_commit_118 : decode cX1_commit 118 = .ok (.getfield 27, 3) := by decide +kernel
theorem dX1_commit_121 : decode cX1_commit 121 = .ok (.bipush 32, 2) := by decide +kernel
theorem dX1_commit_123 : decode cX1_commit 123 = .ok (.iload_n 1, 1) := by decide +kernel
theorem dX1_commit_124 : decode cX1_commit 124 = .ok (.imul, 1) := by decide +kernel
theorem dX1_commit_125 : decode cX1_commit 125 = .ok (.iload 4, 2) := by decide +kernel
theorem dX1_commit_127 : decode cX1_commit 127 = .ok (.iadd, 1) := by decide +kernel
theorem dX1_commit_128 : decode cX1_commit 128 = .ok (.baload, 1) := by decide +kernel
theorem dX1_commit_129 : decode cX1_commit 129 = .ok (.goto 12, 3) := by decide +kernel
theorem dX1_commit_132 : decode cX1_commit 132 = .ok (.aload_n 0, 1) := by decide +kernel
theorem dX1_commit_133 : decode cX1_commit 133 = .ok (.getfield 13, 3) := by decide +kernel
theorem dX1_commit_136 : decode cX1_commit 136 = .ok (.iload_n 2, 1) := by decide +kernel
theorem dX1_commit_137 : decode cX1_commit 137 = .ok (.iload 4, 2) := by decide +kernel
theorem dX1_commit_139 : decode cX1_commit 139 = .ok (.iadd, 1) := by decide +kernel
theorem dX1_commit_140 : decode cX1_commit 140 = .ok (.baload, 1) := by decide +kernel
theorem dX1_commit_141 : decode cX1_commit 141 = .ok (.bastore, 1) := by decide +kernel
theorem dX1_commit_142 : decode cX1_commit 142 = .ok (.aload_n 0, 1) := by decide +kernel
theorem dX1_commit_143 : decode cX1_commit 143 = .ok (.getfield 17, 3) := by decide +kernel
theorem dX1_commit_146 : decode cX1_commit 146 = .ok (.iload_n 3, 1) := by decide +kernel
theorem dX1_commit_147 : decode cX1_commit 147 = .ok (.iload 4, 2) := by decide +kernel
theorem dX1_commit_149 : decode cX1_commit 149 = .ok (.iadd, 1) := by decide +kernel
theorem dX1_commit_150 : decode cX1_commit 150 = .ok (.iload 5, 2) := by decide +kernel
theorem dX1_commit_152 : decode cX1_commit 152 = .ok (.ifCond .eq 18, 3) := by decide +kernel
theorem dX1_commit_155 : decode cX1_commit 155 = .ok (.aload_n 0, 1) := by decide +kernel
theorem dX1_commit_156 : decode cX1_commit 156 = .ok (.getfield 30, 3) := by decide +kernel
theorem dX1_commit_159 : decode cX1_commit 159 = .ok (.bipush 32, 2) := by decide +kernel
theorem dX1_commit_161 : decode cX1_commit 161 = .ok (.iload_n 1, 1) := by decide +kernel
theorem dX1_commit_162 : decode cX1_commit 162 = .ok (.imul, 1) := by decide +kernel
theorem dX1_commit_163 : decode cX1_commit 163 = .ok (.iload 4, 2) := by decide +kernel
theorem dX1_commit_165 : decode cX1_commit 165 = .ok (.iadd, 1) := by decide +kernel
theorem dX1_commit_166 : decode cX1_commit 166 = .ok (.iaload, 1) := by decide +kernel
theorem dX1_commit_167 : decode cX1_commit 167 = .ok (.goto 12, 3) := by decide +kernel
theorem dX1_commit_170 : decode cX1_commit 170 = .ok (.aload_n 0, 1) := by decide +kernel
theorem dX1_commit_171 : decode cX1_commit 171 = .ok (.getfield 17, 3) := by decide +kernel
theorem dX1_commit_174 : decode cX1_commit 174 = .ok (.iload_n 2, 1) := by decide +kernel
theorem dX1_commit_175 : decode cX1_commit 175 = .ok (.iload 4, 2) := by decide +kernel
theorem dX1_commit_177 : decode cX1_commit 177 = .ok (.iadd, 1) := by decide +kernel
theorem dX1_commit_178 : decode cX1_commit 178 = .ok (.iaload, 1) := by decide +kernel
theorem dX1_commit_179 : decode cX1_commit 179 = .ok (.iastore, 1) := by decide +kernel
theorem dX1_commit_180 : decode cX1_commit 180 = .ok (.iinc 4 1, 3) := by decide +kernel
theorem dX1_commit_183 : decode cX1_commit 183 = .ok (.goto (-100), 3) := by decide +kernel
theorem dX1_commit_186 : decode cX1_commit 186 = .ok (.aload_n 0, 1) := by decide +kernel
theorem dX1_commit_187 : decode cX1_commit 187 = .ok (.getfield 21, 3) := by decide +kernel
theorem dX1_commit_190 : decode cX1_commit 190 = .ok (.aload_n 0, 1) := by decide +kernel
theorem dX1_commit_191 : decode cX1_commit 191 = .ok (.getfield 7, 3) := by decide +kernel
theorem dX1_commit_194 : decode cX1_commit 194 = .ok (.bipush 6, 2) := by decide +kernel
theorem dX1_commit_196 : decode cX1_commit 196 = .ok (.irem, 1) := by decide +kernel
theorem dX1_commit_197 : decode cX1_commit 197 = .ok (.aload_n 0, 1) := by decide +kernel
theorem dX1_commit_198 : decode cX1_commit 198 = .ok (.getfield 33, 3) := by decide +kernel
theorem dX1_commit_201 : decode cX1_commit 201 = .ok (.iload_n 1, 1) := by decide +kernel
theorem dX1_commit_202 : decode cX1_commit 202 = .ok (.iaload, 1) := by decide +kernel
theorem dX1_commit_203 : decode cX1_commit 203 = .ok (.iastore, 1) := by decide +kernel
theorem dX1_commit_204 : decode cX1_commit 204 = .ok (.iconst 0, 1) := by decide +kernel
theorem dX1_commit_205 : decode cX1_commit 205 = .ok (.istore 4, 2) := by decide +kernel
theorem dX1_commit_207 : decode cX1_commit 207 = .ok (.iload 4, 2) := by decide +kernel
theorem dX1_commit_209 : decode cX1_commit 209 = .ok (.iconst 4, 1) := by decide +kernel
theorem dX1_commit_210 : decode cX1_commit 210 = .ok (.if_icmp .ge 30, 3) := by decide +kernel
theorem dX1_commit_213 : decode cX1_commit 213 = .ok (.aload_n 0, 1) := by decide +kernel
theorem dX1_commit_214 : decode cX1_commit 214 = .ok (.getfield 39, 3) := by decide +kernel
theorem dX1_commit_217 : decode cX1_commit 217 = .ok (.iload 4, 2) := by decide +kernel
theorem dX1_commit_219 : decode cX1_commit 219 = .ok (.aload_n 0, 1) := by decide +kernel
theorem dX1_commit_220 : decode cX1_commit 220 = .ok (.getfield 39, 3) := by decide +kernel
theorem dX1_commit_223 : decode cX1_commit 223 = .ok (.iload 4, 2) := by decide +kernel
theorem dX1_commit_225 : decode cX1_commit 225 = .ok (.iaload, 1) := by decide +kernel
theorem dX1_commit_226 : decode cX1_commit 226 = .ok (.aload_n 0, 1) := by decide +kernel
theorem dX1_commit_227 : decode cX1_commit 227 = .ok (.getfield 33, 3) := by decide +kernel
theorem dX1_commit_230 : decode cX1_commit 230 = .ok (.iload_n 1, 1) := by decide +kernel
theorem dX1_commit_231 : decode cX1_commit 231 = .ok (.iaload, 1) := by decide +kernel
theorem dX1_commit_232 : decode cX1_commit 232 = .ok (.ior, 1) := by decide +kernel
theorem dX1_commit_233 : decode cX1_commit 233 = .ok (.iastore, 1) := by decide +kernel
theorem dX1_commit_234 : decode cX1_commit 234 = .ok (.iinc 4 1, 3) := by decide +kernel
theorem dX1_commit_237 : decode cX1_commit 237 = .ok (.goto (-30), 3) := by decide +kernel
theorem dX1_commit_240 : decode cX1_commit 240 = .ok (.aload_n 0, 1) := by decide +kernel
theorem dX1_commit_241 : decode cX1_commit 241 = .ok (.getfield 7, 3) := by decide +kernel
theorem dX1_commit_244 : decode cX1_commit 244 = .ok (.ireturn, 1) := by decide +kernel
theorem dX1_abort_0 : decode cX1_abort 0 = .ok (.aload_n 0, 1) := by decide +kernel
theorem dX1_abort_1 : decode cX1_abort 1 = .ok (.iload_n 1, 1) := by decide +kernel
theorem dX1_abort_2 : decode cX1_abort 2 = .ok (.invokevirtual 46, 3) := by decide +kernel
theorem dX1_abort_5 : decode cX1_abort 5 = .ok (.ifCond .ne 5, 3) := by decide +kernel
theorem dX1_abort_8 : decode cX1_abort 8 = .ok (.iconst (-1), 1) := by decide +kernel
theorem dX1_abort_9 : decode cX1_abort 9 = .ok (.ireturn, 1) := by decide +kernel
theorem dX1_abort_10 : decode cX1_abort 10 = .ok (.aload_n 0, 1) := by decide +kernel
theorem dX1_abort_11 : decode cX1_abort 11 = .ok (.getfield 24, 3) := by decide +kernel
theorem dX1_abort_14 : decode cX1_abort 14 = .ok (.iload_n 1, 1) := by decide +kernel
theorem dX1_abort_15 : decode cX1_abort 15 = .ok (.baload, 1) := by decide +kernel
theorem dX1_abort_16 : decode cX1_abort 16 = .ok (.ifCond .ne 6, 3) := by decide +kernel
theorem dX1_abort_19 : decode cX1_abort 19 = .ok (.bipush (-3), 2) := by decide +kernel
theorem dX1_abort_21 : decode cX1_abort 21 = .ok (.ireturn, 1) := by decide +kernel
theorem dX1_abort_22 : decode cX1_abort 22 = .ok (.aload_n 0, 1) := by decide +kernel
theorem dX1_abort_23 : decode cX1_abort 23 = .ok (.getfield 24, 3) := by decide +kernel
theorem dX1_abort_26 : decode cX1_abort 26 = .ok (.iload_n 1, 1) := by decide +kernel
theorem dX1_abort_27 : decode cX1_abort 27 = .ok (.iconst 0, 1) := by decide +kernel
theorem dX1_abort_28 : decode cX1_abort 28 = .ok (.bastore, 1) := by decide +kernel
theorem dX1_abort_29 : decode cX1_abort 29 = .ok (.aload_n 0, 1) := by decide +kernel
theorem dX1_abort_30 : decode cX1_abort 30 = .ok (.aload_n 0, 1) := by decide +kernel
theorem dX1_abort_31 : decode cX1_abort 31 = .ok (.getfield 33, 3) := by decide +kernel
theorem dX1_abort_34 : decode cX1_abort 34 = .ok (.iload_n 1, 1) := by decide +kernel
theorem dX1_abort_35 : decode cX1_abort 35 = .ok (.iaload, 1) := by decide +kernel
theorem dX1_abort_36 : decode cX1_abort 36 = .ok (.invokevirtual 53, 3) := by decide +kernel
theorem dX1_abort_39 : decode cX1_abort 39 = .ok (.ireturn, 1) := by decide +kernel
theorem dX1_latest_0 : decode cX1_latest 0 = .ok (.aload_n 0, 1) := by decide +kernel
theorem dX1_latest_1 : decode cX1_latest 1 = .ok (.getfield 7, 3) := by decide +kernel
theorem dX1_latest_4 : decode cX1_latest 4 = .ok (.ireturn, 1) := by decide +kernel
theorem dX1_has_0 : decode cX1_has 0 = .ok (.aload_n 0, 1) := by decide +kernel
theorem dX1_has_1 : decode cX1_has 1 = .ok (.iload_n 1, 1) := by decide +kernel
theorem dX1_has_2 : decode cX1_has 2 = .ok (.invokevirtual 68, 3) := by decide +kernel
theorem dX1_has_5 : decode cX1_has 5 = .ok (.ifCond .eq 32, 3) := by decide +kernel
theorem dX1_has_8 : decode cX1_has 8 = .ok (.aload_n 0, 1) := by decide +kernel
theorem dX1_has_9 : decode cX1_has 9 = .ok (.iload_n 2, 1) := by decide +kernel
theorem dX1_has_10 : decode cX1_has 10 = .ok (.invokevirtual 50, 3) := by decide +kernel
theorem dX1_has_13 : decode cX1_has 13 = .ok (.ifCond .eq 24, 3) := by decide +kernel
theorem dX1_has_16 : decode cX1_has 16 = .ok (.aload_n 0, 1) := by decide +kernel
theorem dX1_has_17 : decode cX1_has 17 = .ok (.getfield 13, 3) := by decide +kernel
theorem dX1_has_20 : decode cX1_has 20 = .ok (.bipush 32, 2) := by decide +kernel
theorem dX1_has_22 : decode cX1_has 22 = .ok (.iload_n 1, 1) := by decide +kernel
theorem dX1_has_23 : decode cX1_has 23 = .ok (.bipush 6, 2) := by decide +kernel
theorem dX1_has_25 : decode cX1_has 25 = .ok (.irem, 1) := by decide +kernel
theorem dX1_has_26 : decode cX1_has 26 = .ok (.imul, 1) := by decide +kernel
theorem dX1_has_27 : decode cX1_has 27 = .ok (.iload_n 2, 1) := by decide +kernel
theorem dX1_has_28 : decode cX1_has 28 = .ok (.iadd, 1) := by decide +kernel
theorem dX1_has_29 : decode cX1_has 29 = .ok (.baload, 1) := by decide +kernel
theorem dX1_has_30 : decode cX1_has 30 = .ok (.ifCond .eq 7, 3) := by decide +kernel
theorem dX1_has_33 : decode cX1_has 33 = .ok (.iconst 1, 1) := by decide +kernel
theorem dX1_has_34 : decode cX1_has 34 = .ok (.goto 4, 3) := by decide +kernel
theorem dX1_has_37 : decode cX1_has 37 = .ok (.iconst 0, 1) := by decide +kernel
theorem dX1_has_38 : decode cX1_has 38 = .ok (.ireturn, 1) := by decide +kernel
theorem dX1_isKept_0 : decode cX1_isKept 0 = .ok (.aload_n 0, 1) := by decide +kernel
theorem dX1_isKept_1 : decode cX1_isKept 1 = .ok (.iload_n 1, 1) := by decide +kernel
theorem dX1_isKept_2 : decode cX1_isKept 2 = .ok (.invokevirtual 65, 3) := by decide +kernel
theorem dX1_isKept_5 : decode cX1_isKept 5 = .ok (.ifCond .eq 18, 3) := by decide +kernel
theorem dX1_isKept_8 : decode cX1_isKept 8 = .ok (.iload_n 1, 1) := by decide +kernel
theorem dX1_isKept_9 : decode cX1_isKept 9 = .ok (.aload_n 0, 1) := by decide +kernel
theorem dX1_isKept_10 : decode cX1_isKept 10 = .ok (.getfield 7, 3) := by decide +kernel
theorem dX1_isKept_13 : decode cX1_isKept 13 = .ok (.bipush 6, 2) := by decide +kernel
theorem dX1_isKept_15 : decode cX1_isKept 15 = .ok (.isub, 1) := by decide +kernel
theorem dX1_isKept_16 : decode cX1_isKept 16 = .ok (.if_icmp .le 7, 3) := by decide +kernel
theorem dX1_isKept_19 : decode cX1_isKept 19 = .ok (.iconst 1, 1) := by decide +kernel
theorem dX1_isKept_20 : decode cX1_isKept 20 = .ok (.goto 4, 3) := by decide +kernel
theorem dX1_isKept_23 : decode cX1_isKept 23 = .ok (.iconst 0, 1) := by decide +kernel
theorem dX1_isKept_24 : decode cX1_isKept 24 = .ok (.ireturn, 1) := by decide +kernel
theorem dX1_exists_0 : decode cX1_exists 0 = .ok (.iload_n 1, 1) := by decide +kernel
theorem dX1_exists_1 : decode cX1_exists 1 = .ok (.ifCond .lt 15, 3) := by decide +kernel
theorem dX1_exists_4 : decode cX1_exists 4 = .ok (.iload_n 1, 1) := by decide +kernel
theorem dX1_exists_5 : decode cX1_exists 5 = .ok (.aload_n 0, 1) := by decide +kernel
theorem dX1_exists_6 : decode cX1_exists 6 = .ok (.getfield 7, 3) := by decide +kernel
theorem dX1_exists_9 : decode cX1_exists 9 = .ok (.if_icmp .gt 7, 3) := by decide +kernel
theorem dX1_exists_12 : decode cX1_exists 12 = .ok (.iconst 1, 1) := by decide +kernel
theorem dX1_exists_13 : decode cX1_exists 13 = .ok (.goto 4, 3) := by decide +kernel
theorem dX1_exists_16 : decode cX1_exists 16 = .ok (.iconst 0, 1) := by decide +kernel
theorem dX1_exists_17 : decode cX1_exists 17 = .ok (.ireturn, 1) := by decide +kernel
theorem dX1_at_0 : decode cX1_at 0 = .ok (.aload_n 0, 1) := by decide +kernel
theorem dX1_at_1 : decode cX1_at 1 = .ok (.iload_n 1, 1) := by decide +kernel
theorem dX1_at_2 : decode cX1_at 2 = .ok (.iload_n 2, 1) := by decide +kernel
theorem dX1_at_3 : decode cX1_at 3 = .ok (.invokevirtual 71, 3) := by decide +kernel
theorem dX1_at_6 : decode cX1_at 6 = .ok (.ifCond .eq 20, 3) := by decide +kernel
theorem dX1_at_9 : decode cX1_at 9 = .ok (.aload_n 0, 1) := by decide +kernel
theorem dX1_at_10 : decode cX1_at 10 = .ok (.getfield 17, 3) := by decide +kernel
theorem dX1_at_13 : decode cX1_at 13 = .ok (.bipush 32, 2) := by decide +kernel
theorem dX1_at_15 : decode cX1_at 15 = .ok (.iload_n 1, 1) := by decide +kernel
theorem dX1_at_16 : decode cX1_at 16 = .ok (.bipush 6, 2) := by decide +kernel
theorem dX1_at_18 : decode cX1_at 18 = .ok (.irem, 1) := by decide +kernel
theorem dX1_at_19 : decode cX1_at 19 = .ok (.imul, 1) := by decide +kernel
theorem dX1_at_20 : decode cX1_at 20 = .ok (.iload_n 2, 1) := by decide +kernel
theorem dX1_at_21 : decode cX1_at 21 = .ok (.iadd, 1) := by decide +kernel
theorem dX1_at_22 : decode cX1_at 22 = .ok (.iaload, 1) := by decide +kernel
theorem dX1_at_23 : decode cX1_at 23 = .ok (.goto 4, 3) := by decide +kernel
theorem dX1_at_26 : decode cX1_at 26 = .ok (.iconst 0, 1) := by decide +kernel
theorem dX1_at_27 : decode cX1_at 27 = .ok (.ireturn, 1) := by decide +kernel
theorem dX1_size_0 : decode cX1_size 0 = .ok (.aload_n 0, 1) := by decide +kernel
theorem dX1_size_1 : decode cX1_size 1 = .ok (.iload_n 1, 1) := by decide +kernel
theorem dX1_size_2 : decode cX1_size 2 = .ok (.invokevirtual 65, 3) := by decide +kernel
theorem dX1_size_5 : decode cX1_size 5 = .ok (.ifCond .ne 5, 3) := by decide +kernel
theorem dX1_size_8 : decode cX1_size 8 = .ok (.iconst (-1), 1) := by decide +kernel
theorem dX1_size_9 : decode cX1_size 9 = .ok (.ireturn, 1) := by decide +kernel
theorem dX1_size_10 : decode cX1_size 10 = .ok (.aload_n 0, 1) := by decide +kernel
theorem dX1_size_11 : decode cX1_size 11 = .ok (.iload_n 1, 1) := by decide +kernel
theorem dX1_size_12 : decode cX1_size 12 = .ok (.invokevirtual 68, 3) := by decide +kernel
theorem dX1_size_15 : decode cX1_size 15 = .ok (.ifCond .ne 6, 3) := by decide +kernel
theorem dX1_size_18 : decode cX1_size 18 = .ok (.bipush (-6), 2) := by decide +kernel
theorem dX1_size_20 : decode cX1_size 20 = .ok (.ireturn, 1) := by decide +kernel
theorem dX1_size_21 : decode cX1_size 21 = .ok (.iconst 0, 1) := by decide +kernel
theorem dX1_size_22 : decode cX1_size 22 = .ok (.istore_n 2, 1) := by decide +kernel
theorem dX1_size_23 : decode cX1_size 23 = .ok (.iconst 0, 1) := by decide +kernel
theorem dX1_size_24 : decode cX1_size 24 = .ok (.istore_n 3, 1) := by decide +kernel
theorem dX1_size_25 : decode cX1_size 25 = .ok (.iload_n 3, 1) := by decide +kernel
theorem dX1_size_26 : decode cX1_size 26 = .ok (.bipush 32, 2) := by decide +kernel
theorem dX1_size_28 : decode cX1_size 28 = .ok (.if_icmp .ge 21, 3) := by decide +kernel
theorem dX1_size_31 : decode cX1_size 31 = .ok (.aload_n 0, 1) := by decide +kernel
theorem dX1_size_32 : decode cX1_size 32 = .ok (.iload_n 1, 1) := by decide +kernel
theorem dX1_size_33 : decode cX1_size 33 = .ok (.iload_n 3, 1) := by decide +kernel
theorem dX1_size_34 : decode cX1_size 34 = .ok (.invokevirtual 71, 3) := by decide +kernel
theorem dX1_size_37 : decode cX1_size 37 = .ok (.ifCond .eq 6, 3) := by decide +kernel
theorem dX1_size_40 : decode cX1_size 40 = .ok (.iinc 2 1, 3) := by decide +kernel
theorem dX1_size_43 : decode cX1_size 43 = .ok (.iinc 3 1, 3) := by decide +kernel
theorem dX1_size_46 : decode cX1_size 46 = .ok (.goto (-21), 3) := by decide +kernel
theorem dX1_size_49 : decode cX1_size 49 = .ok (.iload_n 2, 1) := by decide +kernel
theorem dX1_size_50 : decode cX1_size 50 = .ok (.ireturn, 1) := by decide +kernel
theorem dX1_changed_0 : decode cX1_changed 0 = .ok (.aload_n 0, 1) := by decide +kernel
theorem dX1_changed_1 : decode cX1_changed 1 = .ok (.iload_n 1, 1) := by decide +kernel
theorem dX1_changed_2 : decode cX1_changed 2 = .ok (.invokevirtual 65, 3) := by decide +kernel
theorem dX1_changed_5 : decode cX1_changed 5 = .ok (.ifCond .eq 16, 3) := by decide +kernel
theorem dX1_changed_8 : decode cX1_changed 8 = .ok (.aload_n 0, 1) := by decide +kernel
theorem dX1_changed_9 : decode cX1_changed 9 = .ok (.iload_n 2, 1) := by decide +kernel
theorem dX1_changed_10 : decode cX1_changed 10 = .ok (.invokevirtual 65, 3) := by decide +kernel
theorem dX1_changed_13 : decode cX1_changed 13 = .ok (.ifCond .eq 8, 3) := by decide +kernel
theorem dX1_changed_16 : decode cX1_changed 16 = .ok (.iload_n 1, 1) := by decide +kernel
theorem dX1_changed_17 : decode cX1_changed 17 = .ok (.iload_n 2, 1) := by decide +kernel
theorem dX1_changed_18 : decode cX1_changed 18 = .ok (.if_icmp .lt 5, 3) := by decide +kernel
theorem dX1_changed_21 : decode cX1_changed 21 = .ok (.iconst (-1), 1) := by decide +kernel
theorem dX1_changed_22 : decode cX1_changed 22 = .ok (.ireturn, 1) := by decide +kernel
theorem dX1_changed_23 : decode cX1_changed 23 = .ok (.aload_n 0, 1) := by decide +kernel
theorem dX1_changed_24 : decode cX1_changed 24 = .ok (.iload_n 1, 1) := by decide +kernel
theorem dX1_changed_25 : decode cX1_changed 25 = .ok (.invokevirtual 68, 3) := by decide +kernel
theorem dX1_changed_28 : decode cX1_changed 28 = .ok (.ifCond .eq 11, 3) := by decide +kernel
theorem dX1_changed_31 : decode cX1_changed 31 = .ok (.aload_n 0, 1) := by decide +kernel
theorem dX1_changed_32 : decode cX1_changed 32 = .ok (.iload_n 2, 1) := by decide +kernel
theorem dX1_changed_33 : decode cX1_changed 33 = .ok (.invokevirtual 68, 3) := by decide +kernel
theorem dX1_changed_36 : decode cX1_changed 36 = .ok (.ifCond .ne 6, 3) := by decide +kernel
theorem dX1_changed_39 : decode cX1_changed 39 = .ok (.bipush (-6), 2) := by decide +kernel
theorem dX1_changed_41 : decode cX1_changed 41 = .ok (.ireturn, 1) := by decide +kernel
theorem dX1_changed_42 : decode cX1_changed 42 = .ok (.iconst 0, 1) := by decide +kernel
theorem dX1_changed_43 : decode cX1_changed 43 = .ok (.istore_n 3, 1) := by decide +kernel
theorem dX1_changed_44 : decode cX1_changed 44 = .ok (.iload_n 1, 1) := by decide +kernel
theorem dX1_changed_45 : decode cX1_changed 45 = .ok (.iconst 1, 1) := by decide +kernel
theorem dX1_changed_46 : decode cX1_changed 46 = .ok (.iadd, 1) := by decide +kernel
theorem dX1_changed_47 : decode cX1_changed 47 = .ok (.istore 4, 2) := by decide +kernel
theorem dX1_changed_49 : decode cX1_changed 49 = .ok (.iload 4, 2) := by decide +kernel
theorem dX1_changed_51 : decode cX1_changed 51 = .ok (.iload_n 2, 1) := by decide +kernel
theorem dX1_changed_52 : decode cX1_changed 52 = .ok (.if_icmp .gt 22, 3) := by decide +kernel
theorem dX1_changed_55 : decode cX1_changed 55 = .ok (.iload_n 3, 1) := by decide +kernel
theorem dX1_changed_56 : decode cX1_changed 56 = .ok (.aload_n 0, 1) := by decide +kernel
theorem dX1_changed_57 : decode cX1_changed 57 = .ok (.getfield 21, 3) := by decide +kernel
theorem dX1_changed_60 : decode cX1_changed 60 = .ok (.iload 4, 2) := by decide +kernel
theorem dX1_changed_62 : decode cX1_changed 62 = .ok (.bipush 6, 2) := by decide +kernel
theorem dX1_changed_64 : decode cX1_changed 64 = .ok (.irem, 1) := by decide +kernel
theorem dX1_changed_65 : decode cX1_changed 65 = .ok (.iaload, 1) := by decide +kernel
theorem dX1_changed_66 : decode cX1_changed 66 = .ok (.ior, 1) := by decide +kernel
theorem dX1_changed_67 : decode cX1_changed 67 = .ok (.istore_n 3, 1) := by decide +kernel
theorem dX1_changed_68 : decode cX1_changed 68 = .ok (.iinc 4 1, 3) := by decide +kernel
theorem dX1_changed_71 : decode cX1_changed 71 = .ok (.goto (-22), 3) := by decide +kernel
theorem dX1_changed_74 : decode cX1_changed 74 = .ok (.aload_n 0, 1) := by decide +kernel
theorem dX1_changed_75 : decode cX1_changed 75 = .ok (.iload_n 3, 1) := by decide +kernel
theorem dX1_changed_76 : decode cX1_changed 76 = .ok (.invokevirtual 53, 3) := by decide +kernel
theorem dX1_changed_79 : decode cX1_changed 79 = .ok (.ireturn, 1) := by decide +kernel
end
section
set_option maxRecDepth 100000
/-! the law's own entry -/
abbrev cL_law : ByteArray := code
theorem dL_law_0 : decode cL_law 0 = .ok (.new 7, 3) := by decide +kernel
theorem dL_law_3 : decode cL_law 3 = .ok (.dup, 1) := by decide +kernel
theorem dL_law_4 : decode cL_law 4 = .ok (.invokespecial 9, 3) := by decide +kernel
theorem dL_law_7 : decode cL_law 7 = .ok (.astore_n 1, 1) := by decide +kernel
theorem dL_law_8 : decode cL_law 8 = .ok (.new 10, 3) := by decide +kernel
theorem dL_law_11 : decode cL_law 11 = .ok (.dup, 1) := by decide +kernel
theorem dL_law_12 : decode cL_law 12 = .ok (.invokespecial 12, 3) := by decide +kernel
theorem dL_law_15 : decode cL_law 15 = .ok (.astore_n 2, 1) := by decide +kernel
theorem dL_law_16 : decode cL_law 16 = .ok (.iconst 0, 1) := by decide +kernel
theorem dL_law_17 : decode cL_law 17 = .ok (.istore_n 3, 1) := by decide +kernel
theorem dL_law_18 : decode cL_law 18 = .ok (.iload_n 3, 1) := by decide +kernel
theorem dL_law_19 : decode cL_law 19 = .ok (.aload_n 0, 1) := by decide +kernel
theorem dL_law_20 : decode cL_law 20 = .ok (.arraylength, 1) := by decide +kernel
theorem dL_law_21 : decode cL_law 21 = .ok (.iconst 4, 1) := by decide +kernel
theorem dL_law_22 : decode cL_law 22 = .ok (.isub, 1) := by decide +kernel
theorem dL_law_23 : decode cL_law 23 = .ok (.if_icmp .gt 472, 3) := by decide +kernel
theorem dL_law_26 : decode cL_law 26 = .ok (.aload_n 0, 1) := by decide +kernel
theorem dL_law_27 : decode cL_law 27 = .ok (.iload_n 3, 1) := by decide +kernel
theorem dL_law_28 : decode cL_law 28 = .ok (.iaload, 1) := by decide +kernel
theorem dL_law_29 : decode cL_law 29 = .ok (.bipush 15, 2) := by decide +kernel
theorem dL_law_31 : decode cL_law 31 = .ok (.iand, 1) := by decide +kernel
theorem dL_law_32 : decode cL_law 32 = .ok (.tableswitch 457 0 12 #[68, 91, 134, 167, 200, 233, 276, 299, 322, 335, 368, 401, 424], 68) := by decide +kernel
theorem dL_law_100 : decode cL_law 100 = .ok (.aload_n 1, 1) := by decide +kernel
theorem dL_law_101 : decode cL_law 101 = .ok (.aload_n 0, 1) := by decide +kernel
theorem dL_law_102 : decode cL_law 102 = .ok (.iload_n 3, 1) := by decide +kernel
theorem dL_law_103 : decode cL_law 103 = .ok (.iconst 1, 1) := by decide +kernel
theorem dL_law_104 : decode cL_law 104 = .ok (.iadd, 1) := by decide +kernel
theorem dL_law_105 : decode cL_law 105 = .ok (.iaload, 1) := by decide +kernel
theorem dL_law_106 : decode cL_law 106 = .ok (.invokevirtual 13, 3) := by decide +kernel
theorem dL_law_109 : decode cL_law 109 = .ok (.aload_n 2, 1) := by decide +kernel
theorem dL_law_110 : decode cL_law 110 = .ok (.aload_n 0, 1) := by decide +kernel
theorem dL_law_111 : decode cL_law 111 = .ok (.iload_n 3, 1) := by decide +kernel
theorem dL_law_112 : decode cL_law 112 = .ok (.iconst 1, 1) := by decide +kernel
theorem dL_law_113 : decode cL_law 113 = .ok (.iadd, 1) := by decide +kernel
theorem dL_law_114 : decode cL_law 114 = .ok (.iaload, 1) := by decide +kernel
theorem dL_law_115 : decode cL_law 115 = .ok (.invokevirtual 17, 3) := by decide +kernel
theorem dL_law_118 : decode cL_law 118 = .ok (.if_icmp .eq 371, 3) := by decide +kernel
theorem dL_law_121 : decode cL_law 121 = .ok (.iconst 0, 1) := by decide +kernel
theorem dL_law_122 : decode cL_law 122 = .ok (.ireturn, 1) := by decide +kernel
theorem dL_law_123 : decode cL_law 123 = .ok (.aload_n 1, 1) := by decide +kernel
theorem dL_law_124 : decode cL_law 124 = .ok (.aload_n 0, 1) := by decide +kernel
theorem dL_law_125 : decode cL_law 125 = .ok (.iload_n 3, 1) := by decide +kernel
theorem dL_law_126 : decode cL_law 126 = .ok (.iconst 1, 1) := by decide +kernel
theorem dL_law_127 : decode cL_law 127 = .ok (.iadd, 1) := by decide +kernel
theorem dL_law_128 : decode cL_law 128 = .ok (.iaload, 1) := by decide +kernel
theorem dL_law_129 : decode cL_law 129 = .ok (.aload_n 0, 1) := by decide +kernel
theorem dL_law_130 : decode cL_law 130 = .ok (.iload_n 3, 1) := by decide +kernel
theorem dL_law_131 : decode cL_law 131 = .ok (.iconst 2, 1) := by decide +kernel
theorem dL_law_132 : decode cL_law 132 = .ok (.iadd, 1) := by decide +kernel
theorem dL_law_133 : decode cL_law 133 = .ok (.iaload, 1) := by decide +kernel
theorem dL_law_134 : decode cL_law 134 = .ok (.aload_n 0, 1) := by decide +kernel
theorem dL_law_135 : decode cL_law 135 = .ok (.iload_n 3, 1) := by decide +kernel
theorem dL_law_136 : decode cL_law 136 = .ok (.iconst 3, 1) := by decide +kernel
theorem dL_law_137 : decode cL_law 137 = .ok (.iadd, 1) := by decide +kernel
theorem dL_law_138 : decode cL_law 138 = .ok (.iaload, 1) := by decide +kernel
theorem dL_law_139 : decode cL_law 139 = .ok (.invokevirtual 18, 3) := by decide +kernel
theorem dL_law_142 : decode cL_law 142 = .ok (.aload_n 2, 1) := by decide +kernel
theorem dL_law_143 : decode cL_law 143 = .ok (.aload_n 0, 1) := by decide +kernel
theorem dL_law_144 : decode cL_law 144 = .ok (.iload_n 3, 1) := by decide +kernel
theorem dL_law_145 : decode cL_law 145 = .ok (.iconst 1, 1) := by decide +kernel
theorem dL_law_146 : decode cL_law 146 = .ok (.iadd, 1) := by decide +kernel
theorem dL_law_147 : decode cL_law 147 = .ok (.iaload, 1) := by decide +kernel
theorem dL_law_148 : decode cL_law 148 = .ok (.aload_n 0, 1) := by decide +kernel
theorem dL_law_149 : decode cL_law 149 = .ok (.iload_n 3, 1) := by decide +kernel
theorem dL_law_150 : decode cL_law 150 = .ok (.iconst 2, 1) := by decide +kernel
theorem dL_law_151 : decode cL_law 151 = .ok (.iadd, 1) := by decide +kernel
theorem dL_law_152 : decode cL_law 152 = .ok (.iaload, 1) := by decide +kernel
theorem dL_law_153 : decode cL_law 153 = .ok (.aload_n 0, 1) := by decide +kernel
theorem dL_law_154 : decode cL_law 154 = .ok (.iload_n 3, 1) := by decide +kernel
theorem dL_law_155 : decode cL_law 155 = .ok (.iconst 3, 1) := by decide +kernel
theorem dL_law_156 : decode cL_law 156 = .ok (.iadd, 1) := by decide +kernel
theorem dL_law_157 : decode cL_law 157 = .ok (.iaload, 1) := by decide +kernel
theorem dL_law_158 : decode cL_law 158 = .ok (.invokevirtual 22, 3) := by decide +kernel
theorem dL_law_161 : decode cL_law 161 = .ok (.if_icmp .eq 328, 3) := by decide +kernel
theorem dL_law_164 : decode cL_law 164 = .ok (.iconst 0, 1) := by decide +kernel
theorem dL_law_165 : decode cL_law 165 = .ok (.ireturn, 1) := by decide +kernel
theorem dL_law_166 : decode cL_law 166 = .ok (.aload_n 1, 1) := by decide +kernel
theorem dL_law_167 : decode cL_law 167 = .ok (.aload_n 0, 1) := by decide +kernel
theorem dL_law_168 : decode cL_law 168 = .ok (.iload_n 3, 1) := by decide +kernel
theorem dL_law_169 : decode cL_law 169 = .ok (.iconst 1, 1) := by decide +kernel
theorem dL_law_170 : decode cL_law 170 = .ok (.iadd, 1) := by decide +kernel
theorem dL_law_171 : decode cL_law 171 = .ok (.iaload, 1) := by decide +kernel
theorem dL_law_172 : decode cL_law 172 = .ok (.aload_n 0, 1) := by decide +kernel
theorem dL_law_173 : decode cL_law 173 = .ok (.iload_n 3, 1) := by decide +kernel
theorem dL_law_174 : decode cL_law 174 = .ok (.iconst 2, 1) := by decide +kernel
theorem dL_law_175 : decode cL_law 175 = .ok (.iadd, 1) := by decide +kernel
theorem dL_law_176 : decode cL_law 176 = .ok (.iaload, 1) := by decide +kernel
theorem dL_law_177 : decode cL_law 177 = .ok (.invokevirtual 23, 3) := by decide +kernel
theorem dL_law_180 : decode cL_law 180 = .ok (.aload_n 2, 1) := by decide +kernel
theorem dL_law_181 : decode cL_law 181 = .ok (.aload_n 0, 1) := by decide +kernel
theorem dL_law_182 : decode cL_law 182 = .ok (.iload_n 3, 1) := by decide +kernel
theorem dL_law_183 : decode cL_law 183 = .ok (.iconst 1, 1) := by decide +kernel
theorem dL_law_184 : decode cL_law 184 = .ok (.iadd, 1) := by decide +kernel
theorem dL_law_185 : decode cL_law 185 = .ok (.iaload, 1) := by decide +kernel
theorem dL_law_186 : decode cL_law 186 = .ok (.aload_n 0, 1) := by decide +kernel
theorem dL_law_187 : decode cL_law 187 = .ok (.iload_n 3, 1) := by decide +kernel
theorem dL_law_188 : decode cL_law 188 = .ok (.iconst 2, 1) := by decide +kernel
theorem dL_law_189 : decode cL_law 189 = .ok (.iadd, 1) := by decide +kernel
theorem dL_law_190 : decode cL_law 190 = .ok (.iaload, 1) := by decide +kernel
theorem dL_law_191 : decode cL_law 191 = .ok (.invokevirtual 27, 3) := by decide +kernel
theorem dL_law_194 : decode cL_law 194 = .ok (.if_icmp .eq 295, 3) := by decide +kernel
theorem dL_law_197 : decode cL_law 197 = .ok (.iconst 0, 1) := by decide +kernel
theorem dL_law_198 : decode cL_law 198 = .ok (.ireturn, 1) := by decide +kernel
theorem dL_law_199 : decode cL_law 199 = .ok (.aload_n 1, 1) := by decide +kernel
theorem dL_law_200 : decode cL_law 200 = .ok (.aload_n 0, 1) := by decide +kernel
theorem dL_law_201 : decode cL_law 201 = .ok (.iload_n 3, 1) := by decide +kernel
theorem dL_law_202 : decode cL_law 202 = .ok (.iconst 1, 1) := by decide +kernel
theorem dL_law_203 : decode cL_law 203 = .ok (.iadd, 1) := by decide +kernel
theorem dL_law_204 : decode cL_law 204 = .ok (.iaload, 1) := by decide +kernel
theorem dL_law_205 : decode cL_law 205 = .ok (.aload_n 0, 1) := by decide +kernel
theorem dL_law_206 : decode cL_law 206 = .ok (.iload_n 3, 1) := by decide +kernel
theorem dL_law_207 : decode cL_law 207 = .ok (.iconst 2, 1) := by decide +kernel
theorem dL_law_208 : decode cL_law 208 = .ok (.iadd, 1) := by decide +kernel
theorem dL_law_209 : decode cL_law 209 = .ok (.iaload, 1) := by decide +kernel
theorem dL_law_210 : decode cL_law 210 = .ok (.invokevirtual 28, 3) := by decide +kernel
theorem dL_law_213 : decode cL_law 213 = .ok (.aload_n 2, 1) := by decide +kernel
theorem dL_law_214 : decode cL_law 214 = .ok (.aload_n 0, 1) := by decide +kernel
theorem dL_law_215 : decode cL_law 215 = .ok (.iload_n 3, 1) := by decide +kernel
theorem dL_law_216 : decode cL_law 216 = .ok (.iconst 1, 1) := by decide +kernel
theorem dL_law_217 : decode cL_law 217 = .ok (.iadd, 1) := by decide +kernel
theorem dL_law_218 : decode cL_law 218 = .ok (.iaload, 1) := by decide +kernel
theorem dL_law_219 : decode cL_law 219 = .ok (.aload_n 0, 1) := by decide +kernel
theorem dL_law_220 : decode cL_law 220 = .ok (.iload_n 3, 1) := by decide +kernel
theorem dL_law_221 : decode cL_law 221 = .ok (.iconst 2, 1) := by decide +kernel
theorem dL_law_222 : decode cL_law 222 = .ok (.iadd, 1) := by decide +kernel
theorem dL_law_223 : decode cL_law 223 = .ok (.iaload, 1) := by decide +kernel
theorem dL_law_224 : decode cL_law 224 = .ok (.invokevirtual 31, 3) := by decide +kernel
theorem dL_law_227 : decode cL_law 227 = .ok (.if_icmp .eq 262, 3) := by decide +kernel
theorem dL_law_230 : decode cL_law 230 = .ok (.iconst 0, 1) := by decide +kernel
theorem dL_law_231 : decode cL_law 231 = .ok (.ireturn, 1) := by decide +kernel
theorem dL_law_232 : decode cL_law 232 = .ok (.aload_n 1, 1) := by decide +kernel
theorem dL_law_233 : decode cL_law 233 = .ok (.aload_n 0, 1) := by decide +kernel
theorem dL_law_234 : decode cL_law 234 = .ok (.iload_n 3, 1) := by decide +kernel
theorem dL_law_235 : decode cL_law 235 = .ok (.iconst 1, 1) := by decide +kernel
theorem dL_law_236 : decode cL_law 236 = .ok (.iadd, 1) := by decide +kernel
theorem dL_law_237 : decode cL_law 237 = .ok (.iaload, 1) := by decide +kernel
theorem dL_law_238 : decode cL_law 238 = .ok (.aload_n 0, 1) := by decide +kernel
theorem dL_law_239 : decode cL_law 239 = .ok (.iload_n 3, 1) := by decide +kernel
theorem dL_law_240 : decode cL_law 240 = .ok (.iconst 2, 1) := by decide +kernel
theorem dL_law_241 : decode cL_law 241 = .ok (.iadd, 1) := by decide +kernel
theorem dL_law_242 : decode cL_law 242 = .ok (.iaload, 1) := by decide +kernel
theorem dL_law_243 : decode cL_law 243 = .ok (.invokevirtual 32, 3) := by decide +kernel
theorem dL_law_246 : decode cL_law 246 = .ok (.aload_n 2, 1) := by decide +kernel
theorem dL_law_247 : decode cL_law 247 = .ok (.aload_n 0, 1) := by decide +kernel
theorem dL_law_248 : decode cL_law 248 = .ok (.iload_n 3, 1) := by decide +kernel
theorem dL_law_249 : decode cL_law 249 = .ok (.iconst 1, 1) := by decide +kernel
theorem dL_law_250 : decode cL_law 250 = .ok (.iadd, 1) := by decide +kernel
theorem dL_law_251 : decode cL_law 251 = .ok (.iaload, 1) := by decide +kernel
theorem dL_law_252 : decode cL_law 252 = .ok (.aload_n 0, 1) := by decide +kernel
theorem dL_law_253 : decode cL_law 253 = .ok (.iload_n 3, 1) := by decide +kernel
theorem dL_law_254 : decode cL_law 254 = .ok (.iconst 2, 1) := by decide +kernel
theorem dL_law_255 : decode cL_law 255 = .ok (.iadd, 1) := by decide +kernel
theorem dL_law_256 : decode cL_law 256 = .ok (.iaload, 1) := by decide +kernel
theorem dL_law_257 : decode cL_law 257 = .ok (.invokevirtual 35, 3) := by decide +kernel
theorem dL_law_260 : decode cL_law 260 = .ok (.if_icmp .eq 229, 3) := by decide +kernel
theorem dL_law_263 : decode cL_law 263 = .ok (.iconst 0, 1) := by decide +kernel
theorem dL_law_264 : decode cL_law 264 = .ok (.ireturn, 1) := by decide +kernel
theorem dL_law_265 : decode cL_law 265 = .ok (.aload_n 1, 1) := by decide +kernel
theorem dL_law_266 : decode cL_law 266 = .ok (.aload_n 0, 1) := by decide +kernel
theorem dL_law_267 : decode cL_law 267 = .ok (.iload_n 3, 1) := by decide +kernel
theorem dL_law_268 : decode cL_law 268 = .ok (.iconst 1, 1) := by decide +kernel
theorem dL_law_269 : decode cL_law 269 = .ok (.iadd, 1) := by decide +kernel
theorem dL_law_270 : decode cL_law 270 = .ok (.iaload, 1) := by decide +kernel
theorem dL_law_271 : decode cL_law 271 = .ok (.aload_n 0, 1) := by decide +kernel
theorem dL_law_272 : decode cL_law 272 = .ok (.iload_n 3, 1) := by decide +kernel
theorem dL_law_273 : decode cL_law 273 = .ok (.iconst 2, 1) := by decide +kernel
theorem dL_law_274 : decode cL_law 274 = .ok (.iadd, 1) := by decide +kernel
theorem dL_law_275 : decode cL_law 275 = .ok (.iaload, 1) := by decide +kernel
theorem dL_law_276 : decode cL_law 276 = .ok (.aload_n 0, 1) := by decide +kernel
theorem dL_law_277 : decode cL_law 277 = .ok (.iload_n 3, 1) := by decide +kernel
theorem dL_law_278 : decode cL_law 278 = .ok (.iconst 3, 1) := by decide +kernel
theorem dL_law_279 : decode cL_law 279 = .ok (.iadd, 1) := by decide +kernel
theorem dL_law_280 : decode cL_law 280 = .ok (.iaload, 1) := by decide +kernel
theorem dL_law_281 : decode cL_law 281 = .ok (.invokevirtual 36, 3) := by decide +kernel
theorem dL_law_284 : decode cL_law 284 = .ok (.aload_n 2, 1) := by decide +kernel
theorem dL_law_285 : decode cL_law 285 = .ok (.aload_n 0, 1) := by decide +kernel
theorem dL_law_286 : decode cL_law 286 = .ok (.iload_n 3, 1) := by decide +kernel
theorem dL_law_287 : decode cL_law 287 = .ok (.iconst 1, 1) := by decide +kernel
theorem dL_law_288 : decode cL_law 288 = .ok (.iadd, 1) := by decide +kernel
theorem dL_law_289 : decode cL_law 289 = .ok (.iaload, 1) := by decide +kernel
theorem dL_law_290 : decode cL_law 290 = .ok (.aload_n 0, 1) := by decide +kernel
theorem dL_law_291 : decode cL_law 291 = .ok (.iload_n 3, 1) := by decide +kernel
theorem dL_law_292 : decode cL_law 292 = .ok (.iconst 2, 1) := by decide +kernel
theorem dL_law_293 : decode cL_law 293 = .ok (.iadd, 1) := by decide +kernel
theorem dL_law_294 : decode cL_law 294 = .ok (.iaload, 1) := by decide +kernel
theorem dL_law_295 : decode cL_law 295 = .ok (.aload_n 0, 1) := by decide +kernel
theorem dL_law_296 : decode cL_law 296 = .ok (.iload_n 3, 1) := by decide +kernel
theorem dL_law_297 : decode cL_law 297 = .ok (.iconst 3, 1) := by decide +kernel
theorem dL_law_298 : decode cL_law 298 = .ok (.iadd, 1) := by decide +kernel
theorem dL_law_299 : decode cL_law 299 = .ok (.iaload, 1) := by decide +kernel
theorem dL_law_300 : decode cL_law 300 = .ok (.invokevirtual 39, 3) := by decide +kernel
theorem dL_law_303 : decode cL_law 303 = .ok (.if_icmp .eq 186, 3) := by decide +kernel
theorem dL_law_306 : decode cL_law 306 = .ok (.iconst 0, 1) := by decide +kernel
theorem dL_law_307 : decode cL_law 307 = .ok (.ireturn, 1) := by decide +kernel
theorem dL_law_308 : decode cL_law 308 = .ok (.aload_n 1, 1) := by decide +kernel
theorem dL_law_309 : decode cL_law 309 = .ok (.aload_n 0, 1) := by decide +kernel
theorem dL_law_310 : decode cL_law 310 = .ok (.iload_n 3, 1) := by decide +kernel
theorem dL_law_311 : decode cL_law 311 = .ok (.iconst 1, 1) := by decide +kernel
theorem dL_law_312 : decode cL_law 312 = .ok (.iadd, 1) := by decide +kernel
theorem dL_law_313 : decode cL_law 313 = .ok (.iaload, 1) := by decide +kernel
theorem dL_law_314 : decode cL_law 314 = .ok (.invokevirtual 40, 3) := by decide +kernel
theorem dL_law_317 : decode cL_law 317 = .ok (.aload_n 2, 1) := by decide +kernel
theorem dL_law_318 : decode cL_law 318 = .ok (.aload_n 0, 1) := by decide +kernel
theorem dL_law_319 : decode cL_law 319 = .ok (.iload_n 3, 1) := by decide +kernel
theorem dL_law_320 : decode cL_law 320 = .ok (.iconst 1, 1) := by decide +kernel
theorem dL_law_321 : decode cL_law 321 = .ok (.iadd, 1) := by decide +kernel
theorem dL_law_322 : decode cL_law 322 = .ok (.iaload, 1) := by decide +kernel
theorem dL_law_323 : decode cL_law 323 = .ok (.invokevirtual 43, 3) := by decide +kernel
theorem dL_law_326 : decode cL_law 326 = .ok (.if_icmp .eq 163, 3) := by decide +kernel
theorem dL_law_329 : decode cL_law 329 = .ok (.iconst 0, 1) := by decide +kernel
theorem dL_law_330 : decode cL_law 330 = .ok (.ireturn, 1) := by decide +kernel
theorem dL_law_331 : decode cL_law 331 = .ok (.aload_n 1, 1) := by decide +kernel
theorem dL_law_332 : decode cL_law 332 = .ok (.aload_n 0, 1) := by decide +kernel
theorem dL_law_333 : decode cL_law 333 = .ok (.iload_n 3, 1) := by decide +kernel
theorem dL_law_334 : decode cL_law 334 = .ok (.iconst 1, 1) := by decide +kernel
theorem dL_law_335 : decode cL_law 335 = .ok (.iadd, 1) := by decide +kernel
theorem dL_law_336 : decode cL_law 336 = .ok (.iaload, 1) := by decide +kernel
theorem dL_law_337 : decode cL_law 337 = .ok (.invokevirtual 44, 3) := by decide +kernel
theorem dL_law_340 : decode cL_law 340 = .ok (.aload_n 2, 1) := by decide +kernel
theorem dL_law_341 : decode cL_law 341 = .ok (.aload_n 0, 1) := by decide +kernel
theorem dL_law_342 : decode cL_law 342 = .ok (.iload_n 3, 1) := by decide +kernel
theorem dL_law_343 : decode cL_law 343 = .ok (.iconst 1, 1) := by decide +kernel
theorem dL_law_344 : decode cL_law 344 = .ok (.iadd, 1) := by decide +kernel
theorem dL_law_345 : decode cL_law 345 = .ok (.iaload, 1) := by decide +kernel
theorem dL_law_346 : decode cL_law 346 = .ok (.invokevirtual 47, 3) := by decide +kernel
theorem dL_law_349 : decode cL_law 349 = .ok (.if_icmp .eq 140, 3) := by decide +kernel
theorem dL_law_352 : decode cL_law 352 = .ok (.iconst 0, 1) := by decide +kernel
theorem dL_law_353 : decode cL_law 353 = .ok (.ireturn, 1) := by decide +kernel
theorem dL_law_354 : decode cL_law 354 = .ok (.aload_n 1, 1) := by decide +kernel
theorem dL_law_355 : decode cL_law 355 = .ok (.invokevirtual 48, 3) := by decide +kernel
theorem dL_law_358 : decode cL_law 358 = .ok (.aload_n 2, 1) := by decide +kernel
theorem dL_law_359 : decode cL_law 359 = .ok (.invokevirtual 52, 3) := by decide +kernel
theorem dL_law_362 : decode cL_law 362 = .ok (.if_icmp .eq 127, 3) := by decide +kernel
theorem dL_law_365 : decode cL_law 365 = .ok (.iconst 0, 1) := by decide +kernel
theorem dL_law_366 : decode cL_law 366 = .ok (.ireturn, 1) := by decide +kernel
theorem dL_law_367 : decode cL_law 367 = .ok (.aload_n 1, 1) := by decide +kernel
theorem dL_law_368 : decode cL_law 368 = .ok (.aload_n 0, 1) := by decide +kernel
theorem dL_law_369 : decode cL_law 369 = .ok (.iload_n 3, 1) := by decide +kernel
theorem dL_law_370 : decode cL_law 370 = .ok (.iconst 1, 1) := by decide +kernel
theorem dL_law_371 : decode cL_law 371 = .ok (.iadd, 1) := by decide +kernel
theorem dL_law_372 : decode cL_law 372 = .ok (.iaload, 1) := by decide +kernel
theorem dL_law_373 : decode cL_law 373 = .ok (.aload_n 0, 1) := by decide +kernel
theorem dL_law_374 : decode cL_law 374 = .ok (.iload_n 3, 1) := by decide +kernel
theorem dL_law_375 : decode cL_law 375 = .ok (.iconst 2, 1) := by decide +kernel
theorem dL_law_376 : decode cL_law 376 = .ok (.iadd, 1) := by decide +kernel
theorem dL_law_377 : decode cL_law 377 = .ok (.iaload, 1) := by decide +kernel
theorem dL_law_378 : decode cL_law 378 = .ok (.invokevirtual 53, 3) := by decide +kernel
theorem dL_law_381 : decode cL_law 381 = .ok (.aload_n 2, 1) := by decide +kernel
theorem dL_law_382 : decode cL_law 382 = .ok (.aload_n 0, 1) := by decide +kernel
theorem dL_law_383 : decode cL_law 383 = .ok (.iload_n 3, 1) := by decide +kernel
theorem dL_law_384 : decode cL_law 384 = .ok (.iconst 1, 1) := by decide +kernel
theorem dL_law_385 : decode cL_law 385 = .ok (.iadd, 1) := by decide +kernel
theorem dL_law_386 : decode cL_law 386 = .ok (.iaload, 1) := by decide +kernel
theorem dL_law_387 : decode cL_law 387 = .ok (.aload_n 0, 1) := by decide +kernel
theorem dL_law_388 : decode cL_law 388 = .ok (.iload_n 3, 1) := by decide +kernel
theorem dL_law_389 : decode cL_law 389 = .ok (.iconst 2, 1) := by decide +kernel
theorem dL_law_390 : decode cL_law 390 = .ok (.iadd, 1) := by decide +kernel
theorem dL_law_391 : decode cL_law 391 = .ok (.iaload, 1) := by decide +kernel
theorem dL_law_392 : decode cL_law 392 = .ok (.invokevirtual 57, 3) := by decide +kernel
theorem dL_law_395 : decode cL_law 395 = .ok (.if_icmp .eq 94, 3) := by decide +kernel
theorem dL_law_398 : decode cL_law 398 = .ok (.iconst 0, 1) := by decide +kernel
theorem dL_law_399 : decode cL_law 399 = .ok (.ireturn, 1) := by decide +kernel
theorem dL_law_400 : decode cL_law 400 = .ok (.aload_n 1, 1) := by decide +kernel
theorem dL_law_401 : decode cL_law 401 = .ok (.aload_n 0, 1) := by decide +kernel
theorem dL_law_402 : decode cL_law 402 = .ok (.iload_n 3, 1) := by decide +kernel
theorem dL_law_403 : decode cL_law 403 = .ok (.iconst 1, 1) := by decide +kernel
theorem dL_law_404 : decode cL_law 404 = .ok (.iadd, 1) := by decide +kernel
theorem dL_law_405 : decode cL_law 405 = .ok (.iaload, 1) := by decide +kernel
theorem dL_law_406 : decode cL_law 406 = .ok (.aload_n 0, 1) := by decide +kernel
theorem dL_law_407 : decode cL_law 407 = .ok (.iload_n 3, 1) := by decide +kernel
theorem dL_law_408 : decode cL_law 408 = .ok (.iconst 2, 1) := by decide +kernel
theorem dL_law_409 : decode cL_law 409 = .ok (.iadd, 1) := by decide +kernel
theorem dL_law_410 : decode cL_law 410 = .ok (.iaload, 1) := by decide +kernel
theorem dL_law_411 : decode cL_law 411 = .ok (.invokevirtual 58, 3) := by decide +kernel
theorem dL_law_414 : decode cL_law 414 = .ok (.aload_n 2, 1) := by decide +kernel
theorem dL_law_415 : decode cL_law 415 = .ok (.aload_n 0, 1) := by decide +kernel
theorem dL_law_416 : decode cL_law 416 = .ok (.iload_n 3, 1) := by decide +kernel
theorem dL_law_417 : decode cL_law 417 = .ok (.iconst 1, 1) := by decide +kernel
theorem dL_law_418 : decode cL_law 418 = .ok (.iadd, 1) := by decide +kernel
theorem dL_law_419 : decode cL_law 419 = .ok (.iaload, 1) := by decide +kernel
theorem dL_law_420 : decode cL_law 420 = .ok (.aload_n 0, 1) := by decide +kernel
theorem dL_law_421 : decode cL_law 421 = .ok (.iload_n 3, 1) := by decide +kernel
theorem dL_law_422 : decode cL_law 422 = .ok (.iconst 2, 1) := by decide +kernel
theorem dL_law_423 : decode cL_law 423 = .ok (.iadd, 1) := by decide +kernel
theorem dL_law_424 : decode cL_law 424 = .ok (.iaload, 1) := by decide +kernel
theorem dL_law_425 : decode cL_law 425 = .ok (.invokevirtual 61, 3) := by decide +kernel
theorem dL_law_428 : decode cL_law 428 = .ok (.if_icmp .eq 61, 3) := by decide +kernel
theorem dL_law_431 : decode cL_law 431 = .ok (.iconst 0, 1) := by decide +kernel
theorem dL_law_432 : decode cL_law 432 = .ok (.ireturn, 1) := by decide +kernel
theorem dL_law_433 : decode cL_law 433 = .ok (.aload_n 1, 1) := by decide +kernel
theorem dL_law_434 : decode cL_law 434 = .ok (.aload_n 0, 1) := by decide +kernel
theorem dL_law_435 : decode cL_law 435 = .ok (.iload_n 3, 1) := by decide +kernel
theorem dL_law_436 : decode cL_law 436 = .ok (.iconst 1, 1) := by decide +kernel
theorem dL_law_437 : decode cL_law 437 = .ok (.iadd, 1) := by decide +kernel
theorem dL_law_438 : decode cL_law 438 = .ok (.iaload, 1) := by decide +kernel
theorem dL_law_439 : decode cL_law 439 = .ok (.invokevirtual 62, 3) := by decide +kernel
theorem dL_law_442 : decode cL_law 442 = .ok (.aload_n 2, 1) := by decide +kernel
theorem dL_law_443 : decode cL_law 443 = .ok (.aload_n 0, 1) := by decide +kernel
theorem dL_law_444 : decode cL_law 444 = .ok (.iload_n 3, 1) := by decide +kernel
theorem dL_law_445 : decode cL_law 445 = .ok (.iconst 1, 1) := by decide +kernel
theorem dL_law_446 : decode cL_law 446 = .ok (.iadd, 1) := by decide +kernel
theorem dL_law_447 : decode cL_law 447 = .ok (.iaload, 1) := by decide +kernel
theorem dL_law_448 : decode cL_law 448 = .ok (.invokevirtual 65, 3) := by decide +kernel
theorem dL_law_451 : decode cL_law 451 = .ok (.if_icmp .eq 38, 3) := by decide +kernel
theorem dL_law_454 : decode cL_law 454 = .ok (.iconst 0, 1) := by decide +kernel
theorem dL_law_455 : decode cL_law 455 = .ok (.ireturn, 1) := by decide +kernel
theorem dL_law_456 : decode cL_law 456 = .ok (.aload_n 1, 1) := by decide +kernel
theorem dL_law_457 : decode cL_law 457 = .ok (.aload_n 0, 1) := by decide +kernel
theorem dL_law_458 : decode cL_law 458 = .ok (.iload_n 3, 1) := by decide +kernel
theorem dL_law_459 : decode cL_law 459 = .ok (.iconst 1, 1) := by decide +kernel
theorem dL_law_460 : decode cL_law 460 = .ok (.iadd, 1) := by decide +kernel
theorem dL_law_461 : decode cL_law 461 = .ok (.iaload, 1) := by decide +kernel
theorem dL_law_462 : decode cL_law 462 = .ok (.aload_n 0, 1) := by decide +kernel
theorem dL_law_463 : decode cL_law 463 = .ok (.iload_n 3, 1) := by decide +kernel
theorem dL_law_464 : decode cL_law 464 = .ok (.iconst 2, 1) := by decide +kernel
theorem dL_law_465 : decode cL_law 465 = .ok (.iadd, 1) := by decide +kernel
theorem dL_law_466 : decode cL_law 466 = .ok (.iaload, 1) := by decide +kernel
theorem dL_law_467 : decode cL_law 467 = .ok (.invokevirtual 66, 3) := by decide +kernel
theorem dL_law_470 : decode cL_law 470 = .ok (.aload_n 2, 1) := by decide +kernel
theorem dL_law_471 : decode cL_law 471 = .ok (.aload_n 0, 1) := by decide +kernel
theorem dL_law_472 : decode cL_law 472 = .ok (.iload_n 3, 1) := by decide +kernel
theorem dL_law_473 : decode cL_law 473 = .ok (.iconst 1, 1) := by decide +kernel
theorem dL_law_474 : decode cL_law 474 = .ok (.iadd, 1) := by decide +kernel
theorem dL_law_475 : decode cL_law 475 = .ok (.iaload, 1) := by decide +kernel
theorem dL_law_476 : decode cL_law 476 = .ok (.aload_n 0, 1) := by decide +kernel
theorem dL_law_477 : decode cL_law 477 = .ok (.iload_n 3, 1) := by decide +kernel
theorem dL_law_478 : decode cL_law 478 = .ok (.iconst 2, 1) := by decide +kernel
theorem dL_law_479 : decode cL_law 479 = .ok (.iadd, 1) := by decide +kernel
theorem dL_law_480 : decode cL_law 480 = .ok (.iaload, 1) := by decide +kernel
theorem dL_law_481 : decode cL_law 481 = .ok (.invokevirtual 69, 3) := by decide +kernel
theorem dL_law_484 : decode cL_law 484 = .ok (.if_icmp .eq 5, 3) := by decide +kernel
theorem dL_law_487 : decode cL_law 487 = .ok (.iconst 0, 1) := by decide +kernel
theorem dL_law_488 : decode cL_law 488 = .ok (.ireturn, 1) := by decide +kernel
theorem dL_law_489 : decode cL_law 489 = .ok (.iinc 3 4, 3) := by decide +kernel
theorem dL_law_492 : decode cL_law 492 = .ok (.goto (-474), 3) := by decide +kernel
theorem dL_law_495 : decode cL_law 495 = .ok (.iconst 1, 1) := by decide +kernel
theorem dL_law_496 : decode cL_law 496 = .ok (.ireturn, 1) := by decide +kernel
end
section
set_option maxRecDepth 100000
/-- a state of a class: field k is row k; an int field is place 0 of its row -/
abbrev ST : Type := Nat → Nat → Int32
def su (σ : ST) (k i : Nat) (v : Int32) : ST := fun a => if a = k then upd (σ k) i v else σ a
abbrev cLs : List vw_C := [(RX0, TX0, 21), (RX1, TX1, 10)]
def fX (ad : Nat → Nat) (σ : ST) : List Value := [.ref (ad 0), .ref (ad 1), .ref (ad 2), .ref (ad 3), .ref (ad 4), .int (σ 5 0), .ref (ad 6), .int (σ 7 0), .ref (ad 8), .ref (ad 9), .ref (ad 10), .ref (ad 11), .ref (ad 12), .ref (ad 13), .ref (ad 14), .ref (ad 15), .ref (ad 16), .ref (ad 17), .ref (ad 18), .ref (ad 19), .int (σ 20 0)]
def WX (h : Nat) (ad : Nat → Nat) (d : Nat → ClassId) (σ : ST) : va_W := [(h, .inr (0, fX ad σ)), (ad 0, .inl (d 0, 1024, .inl (σ 0))), (ad 1, .inl (d 1, 512, .inl (σ 1))), (ad 2, .inl (d 2, 512, .inl (σ 2))), (ad 3, .inl (d 3, 512, .inl (σ 3))), (ad 4, .inl (d 4, 512, .inl (σ 4))), (ad 6, .inl (d 6, 512, .inl (σ 6))), (ad 8, .inl (d 8, 6, .inl (σ 8))), (ad 9, .inl (d 9, 4, .inl (σ 9))), (ad 10, .inl (d 10, 4, .inl (σ 10))), (ad 11, .inl (d 11, 4, .inl (σ 11))), (ad 12, .inl (d 12, 4, .inl (σ 12))), (ad 13, .inl (d 13, 4, .inl (σ 13))), (ad 14, .inl (d 14, 24, .inl (σ 14))), (ad 15, .inl (d 15, 24, .inl (σ 15))), (ad 16, .inl (d 16, 24, .inl (σ 16))), (ad 17, .inl (d 17, 16, .inl (σ 17))), (ad 18, .inl (d 18, 16, .inl (σ 18))), (ad 19, .inl (d 19, 16, .inl (σ 19)))]
def tX (d : Nat → ClassId) : List (ClassId × FieldType) := [(d 0, .short), (d 1, .int), (d 2, .boolean), (d 3, .int), (d 4, .boolean), (d 6, .short), (d 8, .short), (d 9, .boolean), (d 10, .int), (d 11, .short), (d 12, .int), (d 13, .byte), (d 14, .byte), (d 15, .int), (d 16, .boolean), (d 17, .short), (d 18, .byte), (d 19, .byte)]
def fM (ad : Nat → Nat) (μ : ST) : List Value := [.int (μ 0 0), .ref (ad 1), .ref (ad 2), .ref (ad 3), .ref (ad 4), .ref (ad 5), .ref (ad 6), .ref (ad 7), .ref (ad 8), .ref (ad 9)]
def WM (h : Nat) (ad : Nat → Nat) (d : Nat → ClassId) (μ : ST) : va_W := [(h, .inr (1, fM ad μ)), (ad 1, .inl (d 1, 192, .inl (μ 1))), (ad 2, .inl (d 2, 192, .inl (μ 2))), (ad 3, .inl (d 3, 6, .inl (μ 3))), (ad 4, .inl (d 4, 4, .inl (μ 4))), (ad 5, .inl (d 5, 128, .inl (μ 5))), (ad 6, .inl (d 6, 128, .inl (μ 6))), (ad 7, .inl (d 7, 4, .inl (μ 7))), (ad 8, .inl (d 8, 4, .inl (μ 8))), (ad 9, .inl (d 9, 4, .inl (μ 9)))]
def tM (d : Nat → ClassId) : List (ClassId × FieldType) := [(d 1, .boolean), (d 2, .int), (d 3, .int), (d 4, .boolean), (d 5, .boolean), (d 6, .int), (d 7, .int), (d 8, .int), (d 9, .int)]

theorem tx0_1 (k : Nat) : (TX0 k).1 = RX0 := by
  unfold TX0 RX0
  split <;> rfl
theorem tx1_1 (k : Nat) : (TX1 k).1 = RX1 := by
  unfold TX1 RX1
  split <;> rfl
/-- the world of a run: tables, cells, apart, framed, what is new is ours -/
def GW (D : va_G) (A : Nat → Prop) (H0 : Heap) (s : State) (tys : List (ClassId × FieldType)) (ws : va_W) (H : Heap) (locs : List Loc) : Prop :=
  va_K D cLs tys s ∧ va_P D cLs ws H ∧ va_D A ws ∧ va_S A H0 H locs ∧ ∀ q, H0.size ≤ q → A q
section XR
variable {p : Program} {l : Launch} {e : Env} {R : Room} {s : State} {m : MethodId} {args : Array Value} {below : List Frame} {meth : Method} {c : Code} {H : Heap} {locs : List Loc} {cells slots : Nat} {Q : State → Prop}
variable {cc : ByteArray} {nL pc : Nat} {ls : Array Slot} {rest : List Value} {D : va_G} {A : Nat → Prop} {H0 : Heap} {h : Nat} {ad : Nat → Nat} {d : Nat → ClassId} {σ σ' : ST} {own : String} {tys : List (ClassId × FieldType)} {ws ws' : va_W}
theorem x_get {idx : Nat} {v : Value} (E : CallFix p m c cc nL s args lw_all RX0) (w : GW D A H0 s (tX d) (WX h ad d σ) H locs) (k : Nat) (hk : k < 21) (hl : Cond.fieldLink RX0 idx RX0 (TX0 k).2.1 (TX0 k).2.2.1 ∈ lw_all) (hv : (fX ad σ)[k]? = some v) (hdg : decode cc pc = .ok (.getfield idx, 3))
    (kk : W p l e R s m args below meth c H locs cells slots Q (F0 m (pc + 3) ls (v :: rest))) : W p l e R s m args below meth c H locs cells slots Q (F0 m pc ls (.ref h :: rest)) :=
  va_get (D := D) (ci := 0) (C := RX0) (T := TX0) (N := 21) (v := v) (fs := fX ad σ) E.1 E.2.1 E.2.2.2.2 in_X0 E.2.2.2.1 w.1 w.2.1 0 rfl rfl k hk (E.2.2.2.2 _ hl) (fun _ h9 => by rw [tx0_1] at h9; exact h9) hv hdg kk
theorem m_get {idx : Nat} {v : Value} (E : CallFix p m c cc nL s args lw_all RX1) (w : GW D A H0 s (tM d) (WM h ad d σ) H locs) (k : Nat) (hk : k < 10) (hl : Cond.fieldLink RX1 idx RX1 (TX1 k).2.1 (TX1 k).2.2.1 ∈ lw_all) (hv : (fM ad σ)[k]? = some v) (hdg : decode cc pc = .ok (.getfield idx, 3))
    (kk : W p l e R s m args below meth c H locs cells slots Q (F0 m (pc + 3) ls (v :: rest))) : W p l e R s m args below meth c H locs cells slots Q (F0 m pc ls (.ref h :: rest)) :=
  va_get (D := D) (ci := 1) (C := RX1) (T := TX1) (N := 10) (v := v) (fs := fM ad σ) E.1 E.2.1 E.2.2.2.2 in_X1 E.2.2.2.1 w.1 w.2.1 0 rfl rfl k hk (E.2.2.2.2 _ hl) (fun _ h9 => by rw [tx1_1] at h9; exact h9) hv hdg kk
theorem x_put {idx : Nat} {x : Int32} (E : CallFix p m c cc nL s args lw_all RX0) (w : GW D A H0 s (tX d) (WX h ad d σ) H locs) (k : Nat) (hk : k < 21) (hl : Cond.fieldLink RX0 idx RX0 (TX0 k).2.1 (TX0 k).2.2.1 ∈ lw_all) (hfin : (TX0 k).2.2.2 = false) (hd : parseFieldDescriptor (TX0 k).2.2.1 = some .int) (hw : (WX h ad d σ).set 0 (h, .inr (0, (fX ad σ).set k (.int x))) = WX h ad d σ') (hdg : decode cc pc = .ok (.putfield idx, 3))
    (kk : ∀ (H1 : Heap) (locs1 : List Loc), GW D A H0 s (tX d) (WX h ad d σ') H1 locs1 → W p l e R s m args below meth c H1 locs1 cells slots Q (F0 m (pc + 3) ls rest)) : W p l e R s m args below meth c H locs cells slots Q (F0 m pc ls (.int x :: .ref h :: rest)) := by
  refine va_put (D := D) (ci := 0) (C := RX0) (T := TX0) (N := 21) (v := .int x) (ty := .int) (fs := fX ad σ) E.1 E.2.1 E.2.2.2.2 in_X0 tyX0 tyX0_ok nmX0 E.2.2.2.1 w.1 w.2.1 w.2.2.1 w.2.2.2.1 0 rfl rfl k hk (E.2.2.2.2 _ hl) (fun _ h9 => by rw [tx0_1] at h9; exact h9) hfin hd rfl rfl hk hdg (fun H1 locs1 hP hD hS => ?_)
  rw [hw] at hP hD
  exact kk H1 locs1 ⟨w.1, hP, hD, hS, w.2.2.2.2⟩
theorem m_put {idx : Nat} {x : Int32} (E : CallFix p m c cc nL s args lw_all RX1) (w : GW D A H0 s (tM d) (WM h ad d σ) H locs) (k : Nat) (hk : k < 10) (hl : Cond.fieldLink RX1 idx RX1 (TX1 k).2.1 (TX1 k).2.2.1 ∈ lw_all) (hfin : (TX1 k).2.2.2 = false) (hd : parseFieldDescriptor (TX1 k).2.2.1 = some .int) (hw : (WM h ad d σ).set 0 (h, .inr (1, (fM ad σ).set k (.int x))) = WM h ad d σ') (hdg : decode cc pc = .ok (.putfield idx, 3))
    (kk : ∀ (H1 : Heap) (locs1 : List Loc), GW D A H0 s (tM d) (WM h ad d σ') H1 locs1 → W p l e R s m args below meth c H1 locs1 cells slots Q (F0 m (pc + 3) ls rest)) : W p l e R s m args below meth c H locs cells slots Q (F0 m pc ls (.int x :: .ref h :: rest)) := by
  refine va_put (D := D) (ci := 1) (C := RX1) (T := TX1) (N := 10) (v := .int x) (ty := .int) (fs := fM ad σ) E.1 E.2.1 E.2.2.2.2 in_X1 tyX1 tyX1_ok nmX1 E.2.2.2.1 w.1 w.2.1 w.2.2.1 w.2.2.2.1 0 rfl rfl k hk (E.2.2.2.2 _ hl) (fun _ h9 => by rw [tx1_1] at h9; exact h9) hfin hd rfl rfl hk hdg (fun H1 locs1 hP hD hS => ?_)
  rw [hw] at hP hD
  exact kk H1 locs1 ⟨w.1, hP, hD, hS, w.2.2.2.2⟩
variable {a i n : Nat} {cA : ClassId} {f : Nat → Int32} {x : Int32}
theorem g_iald (E : CallFix p m c cc nL s args lw_all own) (w : GW D A H0 s tys ws H locs) (q0 t0 : Nat) (ha : ws[q0]? = some (a, .inl (cA, n, .inl f))) (ht : tys[t0]? = some (cA, .int)) (hi : i < n) (hn : n < 2 ^ 31) (hdg : decode cc pc = .ok (.iaload, 1))
    (kk : W p l e R s m args below meth c H locs cells slots Q (F0 m (pc + 1) ls (.int (f i) :: rest))) : W p l e R s m args below meth c H locs cells slots Q (F0 m pc ls (.int (nI i) :: .ref a :: rest)) := by
  refine va_iald E.1 E.2.1 w.1 w.2.1 q0 t0 ha ht (vp_in_nI hi hn) hdg ?_
  rw [nI_clamp (Nat.lt_trans hi hn)]
  exact kk
theorem g_iast (E : CallFix p m c cc nL s args lw_all own) (w : GW D A H0 s tys ws H locs) (q0 t0 : Nat) (ha : ws[q0]? = some (a, .inl (cA, n, .inl f))) (ht : tys[t0]? = some (cA, .int)) (hi : i < n) (hn : n < 2 ^ 31) (hw : ws.set q0 (a, .inl (cA, n, .inl (upd f i x))) = ws') (hdg : decode cc pc = .ok (.iastore, 1))
    (kk : ∀ (H1 : Heap) (locs1 : List Loc), GW D A H0 s tys ws' H1 locs1 → W p l e R s m args below meth c H1 locs1 cells slots Q (F0 m (pc + 1) ls rest)) : W p l e R s m args below meth c H locs cells slots Q (F0 m pc ls (.int x :: .int (nI i) :: .ref a :: rest)) := by
  refine va_iast E.1 E.2.1 w.1 w.2.1 w.2.2.1 w.2.2.2.1 q0 t0 ha ht (vp_in_nI hi hn) hdg (fun H1 locs1 hP hD hS => ?_)
  rw [nI_clamp (Nat.lt_trans hi hn), hw] at hP hD
  exact kk H1 locs1 ⟨w.1, hP, hD, hS, w.2.2.2.2⟩
theorem g_bald (E : CallFix p m c cc nL s args lw_all own) (w : GW D A H0 s tys ws H locs) (q0 t0 : Nat) (ha : ws[q0]? = some (a, .inl (cA, n, .inl f))) (ht : tys[t0]? = some (cA, .byte)) (hi : i < n) (hn : n < 2 ^ 31) (hdg : decode cc pc = .ok (.baload, 1))
    (kk : W p l e R s m args below meth c H locs cells slots Q (F0 m (pc + 1) ls (.int (f i) :: rest))) : W p l e R s m args below meth c H locs cells slots Q (F0 m pc ls (.int (nI i) :: .ref a :: rest)) := by
  refine va_bald E.1 E.2.1 w.1 w.2.1 q0 t0 ha ht (vp_in_nI hi hn) hdg ?_
  rw [nI_clamp (Nat.lt_trans hi hn)]
  exact kk
theorem g_bast (E : CallFix p m c cc nL s args lw_all own) (w : GW D A H0 s tys ws H locs) (q0 t0 : Nat) (ha : ws[q0]? = some (a, .inl (cA, n, .inl f))) (ht : tys[t0]? = some (cA, .byte)) (hi : i < n) (hn : n < 2 ^ 31) (hx : vp_nar .byte x = x) (hw : ws.set q0 (a, .inl (cA, n, .inl (upd f i x))) = ws') (hdg : decode cc pc = .ok (.bastore, 1))
    (kk : ∀ (H1 : Heap) (locs1 : List Loc), GW D A H0 s tys ws' H1 locs1 → W p l e R s m args below meth c H1 locs1 cells slots Q (F0 m (pc + 1) ls rest)) : W p l e R s m args below meth c H locs cells slots Q (F0 m pc ls (.int x :: .int (nI i) :: .ref a :: rest)) := by
  refine va_bast E.1 E.2.1 w.1 w.2.1 w.2.2.1 w.2.2.2.1 q0 t0 ha ht (vp_in_nI hi hn) hdg (fun H1 locs1 hP hD hS => ?_)
  rw [nI_clamp (Nat.lt_trans hi hn), hx, hw] at hP hD
  exact kk H1 locs1 ⟨w.1, hP, hD, hS, w.2.2.2.2⟩
theorem g_zald (E : CallFix p m c cc nL s args lw_all own) (w : GW D A H0 s tys ws H locs) (q0 t0 : Nat) (ha : ws[q0]? = some (a, .inl (cA, n, .inl f))) (ht : tys[t0]? = some (cA, .boolean)) (hi : i < n) (hn : n < 2 ^ 31) (hdg : decode cc pc = .ok (.baload, 1))
    (kk : W p l e R s m args below meth c H locs cells slots Q (F0 m (pc + 1) ls (.int (f i) :: rest))) : W p l e R s m args below meth c H locs cells slots Q (F0 m pc ls (.int (nI i) :: .ref a :: rest)) := by
  refine va_zald E.1 E.2.1 w.1 w.2.1 q0 t0 ha ht (vp_in_nI hi hn) hdg ?_
  rw [nI_clamp (Nat.lt_trans hi hn)]
  exact kk
theorem g_zast (E : CallFix p m c cc nL s args lw_all own) (w : GW D A H0 s tys ws H locs) (q0 t0 : Nat) (ha : ws[q0]? = some (a, .inl (cA, n, .inl f))) (ht : tys[t0]? = some (cA, .boolean)) (hi : i < n) (hn : n < 2 ^ 31) (hx : vp_nar .boolean x = x) (hw : ws.set q0 (a, .inl (cA, n, .inl (upd f i x))) = ws') (hdg : decode cc pc = .ok (.bastore, 1))
    (kk : ∀ (H1 : Heap) (locs1 : List Loc), GW D A H0 s tys ws' H1 locs1 → W p l e R s m args below meth c H1 locs1 cells slots Q (F0 m (pc + 1) ls rest)) : W p l e R s m args below meth c H locs cells slots Q (F0 m pc ls (.int x :: .int (nI i) :: .ref a :: rest)) := by
  refine va_zast E.1 E.2.1 w.1 w.2.1 w.2.2.1 w.2.2.2.1 q0 t0 ha ht (vp_in_nI hi hn) hdg (fun H1 locs1 hP hD hS => ?_)
  rw [nI_clamp (Nat.lt_trans hi hn), hx, hw] at hP hD
  exact kk H1 locs1 ⟨w.1, hP, hD, hS, w.2.2.2.2⟩
theorem g_sald (E : CallFix p m c cc nL s args lw_all own) (w : GW D A H0 s tys ws H locs) (q0 t0 : Nat) (ha : ws[q0]? = some (a, .inl (cA, n, .inl f))) (ht : tys[t0]? = some (cA, .short)) (hi : i < n) (hn : n < 2 ^ 31) (hdg : decode cc pc = .ok (.saload, 1))
    (kk : W p l e R s m args below meth c H locs cells slots Q (F0 m (pc + 1) ls (.int (f i) :: rest))) : W p l e R s m args below meth c H locs cells slots Q (F0 m pc ls (.int (nI i) :: .ref a :: rest)) := by
  refine va_sald E.1 E.2.1 w.1 w.2.1 q0 t0 ha ht (vp_in_nI hi hn) hdg ?_
  rw [nI_clamp (Nat.lt_trans hi hn)]
  exact kk
theorem g_sast (E : CallFix p m c cc nL s args lw_all own) (w : GW D A H0 s tys ws H locs) (q0 t0 : Nat) (ha : ws[q0]? = some (a, .inl (cA, n, .inl f))) (ht : tys[t0]? = some (cA, .short)) (hi : i < n) (hn : n < 2 ^ 31) (hx : vp_nar .short x = x) (hw : ws.set q0 (a, .inl (cA, n, .inl (upd f i x))) = ws') (hdg : decode cc pc = .ok (.sastore, 1))
    (kk : ∀ (H1 : Heap) (locs1 : List Loc), GW D A H0 s tys ws' H1 locs1 → W p l e R s m args below meth c H1 locs1 cells slots Q (F0 m (pc + 1) ls rest)) : W p l e R s m args below meth c H locs cells slots Q (F0 m pc ls (.int x :: .int (nI i) :: .ref a :: rest)) := by
  refine va_sast E.1 E.2.1 w.1 w.2.1 w.2.2.1 w.2.2.2.1 q0 t0 ha ht (vp_in_nI hi hn) hdg (fun H1 locs1 hP hD hS => ?_)
  rw [nI_clamp (Nat.lt_trans hi hn), hx, hw] at hP hD
  exact kk H1 locs1 ⟨w.1, hP, hD, hS, w.2.2.2.2⟩
/-- the number on top, by another name -/
theorem g_eq {x y : Int32} (hxy : x = y) (kk : W p l e R s m args below meth c H locs cells slots Q (F0 m pc ls (.int y :: rest))) : W p l e R s m args below meth c H locs cells slots Q (F0 m pc ls (.int x :: rest)) := hxy ▸ kk
theorem n_iadd {a b : Nat} (hx : p.tables.exec = Jvm.exec) (hb : c.code = cc) (hdg : decode cc pc = .ok (.iadd, 1)) (kk : W p l e R s m args below meth c H locs cells slots Q (F0 m (pc + 1) ls (.int (nI (a + b)) :: rest))) : W p l e R s m args below meth c H locs cells slots Q (F0 m pc ls (.int (nI b) :: .int (nI a) :: rest)) :=
  lv_iadd hx hb hdg (g_eq (nI_add a b) kk)
theorem n_imul {a b : Nat} (hx : p.tables.exec = Jvm.exec) (hb : c.code = cc) (hdg : decode cc pc = .ok (.imul, 1)) (kk : W p l e R s m args below meth c H locs cells slots Q (F0 m (pc + 1) ls (.int (nI (a * b)) :: rest))) : W p l e R s m args below meth c H locs cells slots Q (F0 m pc ls (.int (nI b) :: .int (nI a) :: rest)) :=
  lv_imul hx hb hdg (g_eq (pk_mul a b) kk)
theorem n_isub {a b : Nat} (h : b ≤ a) (hx : p.tables.exec = Jvm.exec) (hb : c.code = cc) (hdg : decode cc pc = .ok (.isub, 1)) (kk : W p l e R s m args below meth c H locs cells slots Q (F0 m (pc + 1) ls (.int (nI (a - b)) :: rest))) : W p l e R s m args below meth c H locs cells slots Q (F0 m pc ls (.int (nI b) :: .int (nI a) :: rest)) :=
  lv_isub hx hb hdg (g_eq (pk_sub h) kk)
theorem n_idiv {a b : Nat} (ha : a < 2 ^ 31) (h0 : 0 < b) (hb2 : b < 2 ^ 31) (hx : p.tables.exec = Jvm.exec) (hb : c.code = cc) (hdg : decode cc pc = .ok (.idiv, 1)) (kk : W p l e R s m args below meth c H locs cells slots Q (F0 m (pc + 1) ls (.int (nI (a / b)) :: rest))) : W p l e R s m args below meth c H locs cells slots Q (F0 m pc ls (.int (nI b) :: .int (nI a) :: rest)) :=
  lv_idiv hx hb hdg (nI_ne0 h0 hb2) (g_eq (pk_div ha h0 hb2) kk)
theorem n_irem {a b : Nat} (ha : a < 2 ^ 31) (h0 : 0 < b) (hb2 : b < 2 ^ 31) (hx : p.tables.exec = Jvm.exec) (hb : c.code = cc) (hdg : decode cc pc = .ok (.irem, 1)) (kk : W p l e R s m args below meth c H locs cells slots Q (F0 m (pc + 1) ls (.int (nI (a % b)) :: rest))) : W p l e R s m args below meth c H locs cells slots Q (F0 m pc ls (.int (nI b) :: .int (nI a) :: rest)) :=
  lv_irem hx hb hdg (nI_ne0 h0 hb2) (g_eq (pk_rem ha h0 hb2) kk)
end XR
end
section
set_option maxRecDepth 100000
/-- the room of a method that calls n frames deep -/
def rm (n : Nat) : Room := { frames := n, cells := 0, slots := 0, locals := 40 * n }
/-- a contract's start: the world of the class, in the state σ -/
def KPre (WW : Nat → (Nat → Nat) → (Nat → ClassId) → ST → va_W) (TT : (Nat → ClassId) → List (ClassId × FieldType)) (D : va_G) (h : Nat) (ad : Nat → Nat) (d : Nat → ClassId) (sz : Nat) (σ : ST) (U : State) : Prop :=
  U.heap.size = sz ∧ va_P D cLs (WW h ad d σ) U.heap ∧ va_K D cLs (TT d) U ∧ va_D (fun _ => True) (WW h ad d σ)
def KB (WW : Nat → (Nat → Nat) → (Nat → ClassId) → ST → va_W) (TT : (Nat → ClassId) → List (ClassId × FieldType)) (D : va_G) (A : Nat → Prop) (h : Nat) (ad : Nat → Nat) (d : Nat → ClassId) (σ : ST) (t : State) : Prop :=
  va_P D cLs (WW h ad d σ) t.heap ∧ va_K D cLs (TT d) t ∧ va_D A (WW h ad d σ)
/-- CONTRACT with an int answer: from the state σ, with arguments as, y answers r and leaves σ' with 'post r σ'' -/
def KMi (WW : Nat → (Nat → Nat) → (Nat → ClassId) → ST → va_W) (TT : (Nat → ClassId) → List (ClassId × FieldType)) (y : MethodName) (b : ByteArray) (L : Nat) (r : Option FieldType) (k : Nat) (as : List Value) (σ : ST) (post : Int32 → ST → Prop) : Prop :=
  ∀ (l : Launch) (D : va_G) (h : Nat) (ad : Nat → Nat) (d : Nat → ClassId) (sz : Nat), Met l y (ws_ y b L r) (rm k) (va_Pc (.ref h :: as) (KPre WW TT D h ad d sz σ)) (va_Qi post (KB WW TT D (va_A (WW h ad d σ) sz) h ad d) (va_A (WW h ad d σ) sz)) 0 0 (va_A (WW h ad d σ) sz)
/-- CONTRACT of a void method -/
def KMv (WW : Nat → (Nat → Nat) → (Nat → ClassId) → ST → va_W) (TT : (Nat → ClassId) → List (ClassId × FieldType)) (y : MethodName) (b : ByteArray) (L : Nat) (k : Nat) (as : List Value) (σ : ST) (post : ST → Prop) : Prop :=
  ∀ (l : Launch) (D : va_G) (h : Nat) (ad : Nat → Nat) (d : Nat → ClassId) (sz : Nat), Met l y (ws_ y b L none) (rm k) (va_Pc (.ref h :: as) (KPre WW TT D h ad d sz σ)) (va_Qv post (KB WW TT D (va_A (WW h ad d σ) sz) h ad d) (va_A (WW h ad d σ) sz)) 0 0 (va_A (WW h ad d σ) sz)
abbrev XMi (y : MethodName) (b : ByteArray) (L : Nat) (r : Option FieldType) (k : Nat) (as : List Value) (σ : ST) (post : Int32 → ST → Prop) : Prop := KMi WX tX y b L r k as σ post
abbrev MMi (y : MethodName) (b : ByteArray) (L : Nat) (r : Option FieldType) (k : Nat) (as : List Value) (σ : ST) (post : Int32 → ST → Prop) : Prop := KMi WM tM y b L r k as σ post
section KR
variable {WW : Nat → (Nat → Nat) → (Nat → ClassId) → ST → va_W} {TT : (Nat → ClassId) → List (ClassId × FieldType)} {y : MethodName} {b : ByteArray} {L k : Nat} {r : Option FieldType} {as : List Value} {σ σ' : ST}
variable {p : Program} {l : Launch} {e : Env} {R : Room} {s : State} {m : MethodId} {args : Array Value} {below : List Frame} {meth : Method} {c : Code} {H : Heap} {locs : List Loc} {cells slots : Nat} {Q : State → Prop}
variable {cc : ByteArray} {nL pc idx : Nat} {ls : Array Slot} {rest st0 : List Value} {D : va_G} {A : Nat → Prop} {H0 : Heap} {h : Nat} {ad : Nat → Nat} {d : Nat → ClassId} {own : String}
theorem k_iret {post : Int32 → ST → Prop} {v : Int32} (E : CallFix p m c cc nL s args lw_all own) (hr : meth.sig.returnType = some .int) (hk : meth.locks = false) (w : GW D A s.heap s (TT d) (WW h ad d σ) H locs) (hp : post v σ) (hdg : decode cc pc = .ok (.ireturn, 1)) :
    W p l e R s m args below meth c H locs 0 0 (MQ below (va_Qi post (KB WW TT D A h ad d) A) args s 0 0 A) (F0 m pc ls [.int v]) :=
  W.iret E.1 E.2.1 hr (fun t ht hW => ⟨⟨v, σ, rfl, hp, by rw [ht]; exact w.2.1, va_K.moved hW.alike w.1, w.2.2.1⟩, w.2.2.2.1.F ht⟩) w.2.2.2.1.2.2 hdg hk
theorem k_zret {post : Int32 → ST → Prop} {v : Int32} (E : CallFix p m c cc nL s args lw_all own) (hr : meth.sig.returnType = some .boolean) (hk : meth.locks = false) (hv : narrow .boolean (.int v) = .int v) (w : GW D A s.heap s (TT d) (WW h ad d σ) H locs) (hp : post v σ) (hdg : decode cc pc = .ok (.ireturn, 1)) :
    W p l e R s m args below meth c H locs 0 0 (MQ below (va_Qi post (KB WW TT D A h ad d) A) args s 0 0 A) (F0 m pc ls [.int v]) :=
  W.zret E.1 E.2.1 hr hv (fun t ht hW => ⟨⟨v, σ, rfl, hp, by rw [ht]; exact w.2.1, va_K.moved hW.alike w.1, w.2.2.1⟩, w.2.2.2.1.F ht⟩) w.2.2.2.1.2.2 hdg hk
theorem k_vret {post : ST → Prop} (E : CallFix p m c cc nL s args lw_all own) (hr : meth.sig.returnType = none) (hk : meth.locks = false) (w : GW D A s.heap s (TT d) (WW h ad d σ) H locs) (hp : post σ) (hdg : decode cc pc = .ok (.return_, 1)) :
    W p l e R s m args below meth c H locs 0 0 (MQ below (va_Qv post (KB WW TT D A h ad d) A) args s 0 0 A) (F0 m pc ls []) :=
  W.vret E.1 E.2.1 hr (fun t ht hW => ⟨⟨σ, rfl, hp, by rw [ht]; exact w.2.1, va_K.moved hW.alike w.1, w.2.2.1⟩, w.2.2.2.1.F ht⟩) w.2.2.2.1.2.2 hdg hk
end KR
section KO
variable {WW : Nat → (Nat → Nat) → (Nat → ClassId) → ST → va_W} {TT : (Nat → ClassId) → List (ClassId × FieldType)} {y : MethodName} {b : ByteArray} {L k : Nat} {r : Option FieldType} {as : List Value} {σ σ' : ST}
theorem KMi.ofI {post : Int32 → ST → Prop} {own : String} (hy : plainName y.cls = true) (hown : y.cls = own) (hlen : ∀ h : Nat, (lg_sl (.ref h :: as)).length ≤ L)
    (body : ∀ (p : Program) (l : Launch) (e : Env) (s : State) (m : MethodId) (args : Array Value) (below : List Frame) (meth : Method) (c : Code) (D : va_G) (h : Nat) (ad : Nat → Nat) (d : Nat → ClassId) (A : Nat → Prop) (ls : Array Slot) (Q : State → Prop), CallFix p m c b L s args lw_all own → GW D A s.heap s (TT d) (WW h ad d σ) s.heap [] →
      (∀ (v : Int32) (σ' : ST) (H : Heap) (locs : List Loc) (ls : Array Slot) (pc : Nat), post v σ' → GW D A s.heap s (TT d) (WW h ad d σ') H locs → decode b pc = .ok (.ireturn, 1) → W p l e (rm k) s m args below meth c H locs 0 0 Q (F0 m pc ls [.int v])) → lv_has ls L (lv_args 0 (.ref h :: as)) →
      W p l e (rm k) s m args below meth c s.heap [] 0 0 Q (F0 m 0 ls [])) : KMi WW TT y b L (some .int) k as σ post := by
  intro l D h ad d sz
  refine Met.ofW (cc := b) (maxL := L) (ret := (some .int)) hy rfl ?_
  intro p e s m args below meth c s₁ B hml hv
  obtain ⟨rfl, hsz, hP, hK, hD0⟩ := hv
  have hts := atoms_spec (ws := ws_ y b L (some .int)) B.pre
  have hts : ∀ w ∈ lw_all, w.before _ s = true := fun w h => hts w (List.mem_cons_of_mem _ h)
  have ho : s.vm.findClass own = some m.cls := by rw [← hown]; exact findClass_of_methodNamed B.named
  subst hsz
  have hD := hD0.self (sz := s.heap.size)
  have hl := lv_entry (.ref h :: as) (n := L) (hlen h)
  rw [lg_entry_eq]
  have E : CallFix p m c b L s (.ref h :: as).toArray lw_all own := ⟨B.exec, B.bytes, hml, ho, hts⟩
  exact body p l e s m _ below meth c D h ad d _ _ _ E ⟨hK, hP, hD, va_S.rf, fun q hq => Or.inr hq⟩ (fun v σ' H locs ls pc hp w hdg => k_iret E B.returns B.notSynchronized w hp hdg) hl
theorem KMi.ofZ {post : Int32 → ST → Prop} {own : String} (hy : plainName y.cls = true) (hown : y.cls = own) (hlen : ∀ h : Nat, (lg_sl (.ref h :: as)).length ≤ L)
    (body : ∀ (p : Program) (l : Launch) (e : Env) (s : State) (m : MethodId) (args : Array Value) (below : List Frame) (meth : Method) (c : Code) (D : va_G) (h : Nat) (ad : Nat → Nat) (d : Nat → ClassId) (A : Nat → Prop) (ls : Array Slot) (Q : State → Prop), CallFix p m c b L s args lw_all own → GW D A s.heap s (TT d) (WW h ad d σ) s.heap [] →
      (∀ (v : Int32) (σ' : ST) (H : Heap) (locs : List Loc) (ls : Array Slot) (pc : Nat), narrow .boolean (.int v) = .int v → post v σ' → GW D A s.heap s (TT d) (WW h ad d σ') H locs → decode b pc = .ok (.ireturn, 1) → W p l e (rm k) s m args below meth c H locs 0 0 Q (F0 m pc ls [.int v])) → lv_has ls L (lv_args 0 (.ref h :: as)) →
      W p l e (rm k) s m args below meth c s.heap [] 0 0 Q (F0 m 0 ls [])) : KMi WW TT y b L (some .boolean) k as σ post := by
  intro l D h ad d sz
  refine Met.ofW (cc := b) (maxL := L) (ret := (some .boolean)) hy rfl ?_
  intro p e s m args below meth c s₁ B hml hv
  obtain ⟨rfl, hsz, hP, hK, hD0⟩ := hv
  have hts := atoms_spec (ws := ws_ y b L (some .boolean)) B.pre
  have hts : ∀ w ∈ lw_all, w.before _ s = true := fun w h => hts w (List.mem_cons_of_mem _ h)
  have ho : s.vm.findClass own = some m.cls := by rw [← hown]; exact findClass_of_methodNamed B.named
  subst hsz
  have hD := hD0.self (sz := s.heap.size)
  have hl := lv_entry (.ref h :: as) (n := L) (hlen h)
  rw [lg_entry_eq]
  have E : CallFix p m c b L s (.ref h :: as).toArray lw_all own := ⟨B.exec, B.bytes, hml, ho, hts⟩
  exact body p l e s m _ below meth c D h ad d _ _ _ E ⟨hK, hP, hD, va_S.rf, fun q hq => Or.inr hq⟩ (fun v σ' H locs ls pc hn hp w hdg => k_zret E B.returns B.notSynchronized hn w hp hdg) hl
theorem KMv.of {post : ST → Prop} {own : String} (hy : plainName y.cls = true) (hown : y.cls = own) (hlen : ∀ h : Nat, (lg_sl (.ref h :: as)).length ≤ L)
    (body : ∀ (p : Program) (l : Launch) (e : Env) (s : State) (m : MethodId) (args : Array Value) (below : List Frame) (meth : Method) (c : Code) (D : va_G) (h : Nat) (ad : Nat → Nat) (d : Nat → ClassId) (A : Nat → Prop) (ls : Array Slot) (Q : State → Prop), CallFix p m c b L s args lw_all own → GW D A s.heap s (TT d) (WW h ad d σ) s.heap [] →
      (∀ (σ' : ST) (H : Heap) (locs : List Loc) (ls : Array Slot) (pc : Nat), post σ' → GW D A s.heap s (TT d) (WW h ad d σ') H locs → decode b pc = .ok (.return_, 1) → W p l e (rm k) s m args below meth c H locs 0 0 Q (F0 m pc ls [])) → lv_has ls L (lv_args 0 (.ref h :: as)) →
      W p l e (rm k) s m args below meth c s.heap [] 0 0 Q (F0 m 0 ls [])) : KMv WW TT y b L k as σ post := by
  intro l D h ad d sz
  refine Met.ofW (cc := b) (maxL := L) (ret := none) hy rfl ?_
  intro p e s m args below meth c s₁ B hml hv
  obtain ⟨rfl, hsz, hP, hK, hD0⟩ := hv
  have hts := atoms_spec (ws := ws_ y b L none) B.pre
  have hts : ∀ w ∈ lw_all, w.before _ s = true := fun w h => hts w (List.mem_cons_of_mem _ h)
  have ho : s.vm.findClass own = some m.cls := by rw [← hown]; exact findClass_of_methodNamed B.named
  subst hsz
  have hD := hD0.self (sz := s.heap.size)
  have hl := lv_entry (.ref h :: as) (n := L) (hlen h)
  rw [lg_entry_eq]
  have E : CallFix p m c b L s (.ref h :: as).toArray lw_all own := ⟨B.exec, B.bytes, hml, ho, hts⟩
  exact body p l e s m _ below meth c D h ad d _ _ _ E ⟨hK, hP, hD, va_S.rf, fun q hq => Or.inr hq⟩ (fun σ' H locs ls pc hp w hdg => k_vret E B.returns B.notSynchronized w hp hdg) hl
theorem KMi.mono {post post2 : Int32 → ST → Prop} (h : KMi WW TT y b L r k as σ post) (hh : ∀ v σ', post v σ' → post2 v σ') : KMi WW TT y b L r k as σ post2 := by
  intro l D h0 ad d sz p e ha hc hk s m args below hf happ hP hK
  obtain ⟨n, o, h1, h2, h3, ⟨⟨v, u, e1, hp, hb⟩, hF⟩, hL⟩ := h l D h0 ad d sz p e ha hc hk s m args below hf happ hP hK
  exact ⟨n, o, h1, h2, h3, ⟨⟨v, u, e1, hh v u hp, hb⟩, hF⟩, hL⟩
theorem KMv.mono {post post2 : ST → Prop} (h : KMv WW TT y b L k as σ post) (hh : ∀ σ', post σ' → post2 σ') : KMv WW TT y b L k as σ post2 := by
  intro l D h0 ad d sz p e ha hc hk s m args below hf happ hP hK
  obtain ⟨n, o, h1, h2, h3, ⟨⟨u, e1, hp, hb⟩, hF⟩, hL⟩ := h l D h0 ad d sz p e ha hc hk s m args below hf happ hP hK
  exact ⟨n, o, h1, h2, h3, ⟨⟨u, e1, hh u hp, hb⟩, hF⟩, hL⟩
end KO
section KC
variable {WW : Nat → (Nat → Nat) → (Nat → ClassId) → ST → va_W} {TT : (Nat → ClassId) → List (ClassId × FieldType)} {y : MethodName} {b : ByteArray} {L k : Nat} {r : Option FieldType} {as : List Value} {σ σ' : ST}
variable {p : Program} {l : Launch} {e : Env} {R : Room} {s : State} {m : MethodId} {args : Array Value} {below : List Frame} {meth : Method} {c : Code} {H : Heap} {locs : List Loc} {cells slots : Nat} {Q : State → Prop}
variable {cc : ByteArray} {nL pc idx : Nat} {ls : Array Slot} {rest st0 : List Value} {D : va_G} {A : Nat → Prop} {H0 : Heap} {h : Nat} {ad : Nat → Nat} {d : Nat → ClassId} {own : String}
theorem KPre.blind {Dd : va_G} {hh sz : Nat} {av : List Value} : FrameBlind (va_Pc av (KPre WW TT Dd hh ad d sz σ)) := fun a U g mk q => by
  obtain ⟨q0, q1, qP, qK, qD⟩ := q
  exact ⟨q0, q1, qP, va_K.moved (u := U) (U := U.calling g mk a) (Vm.Alike.refl U.vm) qK, qD⟩
/-- a call of a method of the same class, on this -/
theorem k_calli {C : String} {T : u_T} {N ci : Nat} {fs : List Value} {post : Int32 → ST → Prop} (hM : KMi WW TT y b L r k as σ post) (E : CallFix p m c cc nL s args lw_all own) (w : GW D A H0 s (TT d) (WW h ad d σ) H locs) (h1 : Cond.methodLink own idx y ∈ lw_all) (h2 : Cond.instanceMethod y ∈ lw_all) (h3 : Cond.selects C y y ∈ lw_all) (h4 : Cond.initialized C ∈ lw_all) (h5 : Cond.code y b L r ∈ lw_all) (hc : cLs[ci]? = some (C, T, N)) (hf : (WW h ad d σ)[0]? = some (h, .inr (ci, fs)))
    (na : Nat) (hna : as.length = na) (hd : y.cls = C ∧ y.cls ≠ "java/lang/invoke/MethodHandle" ∧ y.cls ≠ "java/lang/invoke/VarHandle" ∧ (parseMethodDescriptor y.desc).map (fun d => d.parameters.length) = some na) (hR : k + 1 ≤ R.frames ∧ 8 + (L + 11) + 40 * k ≤ R.locals) (hls : ls.size = nL) (hst : st0 = as.reverse ++ .ref h :: rest) (hrm : (rest.map fun v => v.category).sum ≤ 8) (hdg : decode cc pc = .ok (.invokevirtual idx, 3)) (hcs : cells ≤ R.cells ∧ slots ≤ R.slots)
    (kk : ∀ (v : Int32) (σ' : ST) (H1 : Heap) (locs1 : List Loc), post v σ' → GW D A H0 s (TT d) (WW h ad d σ') H1 locs1 → W p l e R s m args below meth c H1 locs1 cells slots Q (F0 m (pc + 3) ls (.int v :: rest))) : W p l e R s m args below meth c H locs cells slots Q (F0 m pc ls st0) := by
  obtain ⟨hK, hP, hD, hS, hA⟩ := w
  have hFc : ∀ q, va_A (WW h ad d σ) H.size q → A q := by
    intro q hq
    rcases hq with ⟨i, e, hi⟩ | hq
    · exact hD.2 i _ hi
    · exact hA q (Nat.le_trans hS.1 hq)
  refine va_calli (va_runV (As := as) (rest := rest) E (hM l D h ad d H.size) (cwV na E.2.2.2.2 (lw_V h1 h2 h3 h4 h5) rfl rfl rfl hd hR) ⟨KPre.blind, va_recv hK hP hc hf, fun U hU hW => ⟨rfl, by rw [hU], by rw [hU]; exact hP, va_K.moved hW.alike hK, hD.weaken (fun _ _ _ _ => trivial)⟩⟩ rfl hna hls hst (lv_room hrm) hdg hcs) hS (fun q _ h => hFc q h) hFc (fun v u t H1 locs1 ht hvm hp hB hz1 hk1 hS1 => ?_)
  obtain ⟨hP1, hK1, hD1⟩ := hB
  rw [ht] at hP1
  exact kk v u H1 locs1 hp ⟨hK, hP1, hD1.weaken (fun _ q _ h => hFc q.1 h), hS1, hA⟩
theorem k_callv {C : String} {T : u_T} {N ci : Nat} {fs : List Value} {post : ST → Prop} (hM : KMv WW TT y b L k as σ post) (E : CallFix p m c cc nL s args lw_all own) (w : GW D A H0 s (TT d) (WW h ad d σ) H locs) (h1 : Cond.methodLink own idx y ∈ lw_all) (h2 : Cond.instanceMethod y ∈ lw_all) (h3 : Cond.selects C y y ∈ lw_all) (h4 : Cond.initialized C ∈ lw_all) (h5 : Cond.code y b L none ∈ lw_all) (hc : cLs[ci]? = some (C, T, N)) (hf : (WW h ad d σ)[0]? = some (h, .inr (ci, fs)))
    (na : Nat) (hna : as.length = na) (hd : y.cls = C ∧ y.cls ≠ "java/lang/invoke/MethodHandle" ∧ y.cls ≠ "java/lang/invoke/VarHandle" ∧ (parseMethodDescriptor y.desc).map (fun d => d.parameters.length) = some na) (hR : k + 1 ≤ R.frames ∧ 8 + (L + 11) + 40 * k ≤ R.locals) (hls : ls.size = nL) (hst : st0 = as.reverse ++ .ref h :: rest) (hrm : (rest.map fun v => v.category).sum ≤ 8) (hdg : decode cc pc = .ok (.invokevirtual idx, 3)) (hcs : cells ≤ R.cells ∧ slots ≤ R.slots)
    (kk : ∀ (σ' : ST) (H1 : Heap) (locs1 : List Loc), post σ' → GW D A H0 s (TT d) (WW h ad d σ') H1 locs1 → W p l e R s m args below meth c H1 locs1 cells slots Q (F0 m (pc + 3) ls rest)) : W p l e R s m args below meth c H locs cells slots Q (F0 m pc ls st0) := by
  obtain ⟨hK, hP, hD, hS, hA⟩ := w
  have hFc : ∀ q, va_A (WW h ad d σ) H.size q → A q := by
    intro q hq
    rcases hq with ⟨i, e, hi⟩ | hq
    · exact hD.2 i _ hi
    · exact hA q (Nat.le_trans hS.1 hq)
  refine va_callv (va_runV (As := as) (rest := rest) E (hM l D h ad d H.size) (cwV na E.2.2.2.2 (lw_V h1 h2 h3 h4 h5) rfl rfl rfl hd hR) ⟨KPre.blind, va_recv hK hP hc hf, fun U hU hW => ⟨rfl, by rw [hU], by rw [hU]; exact hP, va_K.moved hW.alike hK, hD.weaken (fun _ _ _ _ => trivial)⟩⟩ rfl hna hls hst (lv_room hrm) hdg hcs) hS (fun q _ h => hFc q h) hFc (fun u t H1 locs1 ht hvm hp hB hz1 hk1 hS1 => ?_)
  obtain ⟨hP1, hK1, hD1⟩ := hB
  rw [ht] at hP1
  exact kk u H1 locs1 hp ⟨hK, hP1, hD1.weaken (fun _ q _ h => hFc q.1 h), hS1, hA⟩
end KC
theorem su_same (σ : ST) (k i : Nat) : su σ k i (σ k i) = σ := by
  funext a
  show (if a = k then _ else _) = _
  by_cases e : a = k
  · rw [if_pos e, e]
    funext j
    by_cases e2 : j = i
    · rw [e2, pk_us]
    · rw [pk_un e2]
  · rw [if_neg e]
theorem su_at (σ : ST) (k i : Nat) (x : Int32) : su σ k i x k = upd (σ k) i x := by
  show (if k = k then _ else _) = _
  rw [if_pos rfl]
theorem su_su (σ : ST) (k i : Nat) (x y : Int32) : su (su σ k i x) k i y = su σ k i y := by
  funext a
  show (if a = k then _ else _) = (if a = k then _ else _)
  by_cases e : a = k
  · rw [if_pos e, if_pos e]
    funext j
    by_cases e2 : j = i
    · rw [e2, pk_us, pk_us]
    · rw [pk_un e2, pk_un e2, su_at, pk_un e2]
  · rw [if_neg e, if_neg e]
    show (if a = k then _ else _) = _
    rw [if_neg e]
theorem su_ne (σ : ST) {a k : Nat} (i : Nat) (x : Int32) (h : a ≠ k) : su σ k i x a = σ a := by
  show (if a = k then _ else _) = _
  rw [if_neg h]
end
section
set_option maxRecDepth 100000
def bt (x : Int32) (i : Nat) : Bool := x.toBitVec.getLsbD i
theorem b_ext {x y : Int32} (h : ∀ i, i < 32 → bt x i = bt y i) : x = y := Int32.toBitVec_inj.mp (BitVec.eq_of_getLsbD_eq (fun i hi => h i hi))
theorem b_or (x y : Int32) (i : Nat) : bt (x ||| y) i = (bt x i || bt y i) := by unfold bt; rw [Int32.toBitVec_or, BitVec.getLsbD_or]
theorem b_and (x y : Int32) (i : Nat) : bt (x &&& y) i = (bt x i && bt y i) := by unfold bt; rw [Int32.toBitVec_and, BitVec.getLsbD_and]
theorem b_xor (x y : Int32) (i : Nat) : bt (x ^^^ y) i = (bt x i ^^ bt y i) := by unfold bt; rw [Int32.toBitVec_xor, BitVec.getLsbD_xor]
theorem b_big {x : Int32} {i : Nat} (h : 32 ≤ i) : bt x i = false := BitVec.getLsbD_of_ge _ _ h
theorem b_255 (i : Nat) : bt 255 i = decide (i < 8) := by
  rcases Nat.lt_or_ge i 32 with h | h
  · exact (by decide +kernel : ∀ i, i < 32 → bt 255 i = decide (i < 8)) i h
  · rw [b_big h, decide_eq_false (by omega)]
theorem b_65535 (i : Nat) : bt 65535 i = decide (i < 16) := by
  rcases Nat.lt_or_ge i 32 with h | h
  · exact (by decide +kernel : ∀ i, i < 32 → bt 65535 i = decide (i < 16)) i h
  · rw [b_big h, decide_eq_false (by omega)]
theorem b_m1 : ∀ i, i < 32 → bt (-1) i = true := by decide +kernel
theorem b_0 (i : Nat) : bt 0 i = false := BitVec.getLsbD_zero
theorem s_l : ∀ n, n < 32 → ((nI n &&& 31).toBitVec.smod 32).toNat = n := by decide +kernel
theorem s_u : ∀ n, n < 32 → (((nI n).toUInt32 &&& Int32.toUInt32 31).toBitVec % 32).toNat = n := by decide +kernel
theorem b_shl (n : Nat) (hn : n < 32) (x : Int32) {i : Nat} (hi : i < 32) : bt (x <<< (nI n &&& 31)) i = (decide (n ≤ i) && bt x (i - n)) := by
  unfold bt
  rw [Int32.toBitVec_shiftLeft]
  show (x.toBitVec <<< ((nI n &&& 31).toBitVec.smod 32).toNat).getLsbD i = _
  rw [s_l n hn, BitVec.getLsbD_shiftLeft]
  rcases Nat.lt_or_ge i n with h | h
  · simp [h, Nat.not_le.mpr h]
  · simp [hi, h, Nat.not_lt.mpr h]
theorem b_ushr (n : Nat) (hn : n < 32) (x : Int32) (i : Nat) : bt ((x.toUInt32 >>> ((nI n).toUInt32 &&& Int32.toUInt32 31)).toInt32) i = bt x (n + i) := by
  show (x.toUInt32 >>> ((nI n).toUInt32 &&& Int32.toUInt32 31)).toBitVec.getLsbD i = x.toUInt32.toBitVec.getLsbD (n + i)
  rw [UInt32.toBitVec_shiftRight]
  show (x.toUInt32.toBitVec >>> (((nI n).toUInt32 &&& Int32.toUInt32 31).toBitVec % 32).toNat).getLsbD i = _
  rw [s_u n hn, BitVec.getLsbD_ushiftRight]
theorem b_sshr (n : Nat) (hn : n < 32) (x : Int32) {i : Nat} (hi : i < 32) : bt (x >>> (nI n &&& 31)) i = if n + i < 32 then bt x (n + i) else bt x 31 := by
  unfold bt
  rw [Int32.toBitVec_shiftRight]
  show (x.toBitVec.sshiftRight ((nI n &&& 31).toBitVec.smod 32).toNat).getLsbD i = _
  rw [s_l n hn, BitVec.getLsbD_sshiftRight, BitVec.msb_eq_getLsbD_last]
  simp [hi]
def fb_ct (p : Nat → Bool) : Nat → Nat
  | 0 => 0
  | n + 1 => fb_ct p n + (if p n then 1 else 0)
theorem fb_ct_succ (p : Nat → Bool) (n : Nat) : fb_ct p (n + 1) = fb_ct p n + (if p n then 1 else 0) := rfl
theorem fb_ct_le (p : Nat → Bool) : ∀ n, fb_ct p n ≤ n
  | 0 => Nat.le_refl _
  | n + 1 => by
    have h := fb_ct_le p n
    rw [fb_ct_succ]
    split <;> omega
theorem fb_ct_step (p : Nat → Bool) (m : Nat) : ∀ n, fb_ct p m ≤ fb_ct p (m + n)
  | 0 => Nat.le_refl _
  | n + 1 => by
    have h := fb_ct_step p m n
    show fb_ct p m ≤ fb_ct p (m + n + 1)
    rw [fb_ct_succ]
    omega
theorem fb_ct_mono (p : Nat → Bool) {m n : Nat} (h : m ≤ n) : fb_ct p m ≤ fb_ct p n := by
  have := fb_ct_step p m (n - m)
  rwa [Nat.add_sub_cancel' h] at this
theorem fb_ct_cong {p q : Nat → Bool} : ∀ {n : Nat}, (∀ k, k < n → p k = q k) → fb_ct p n = fb_ct q n
  | 0, _ => rfl
  | n + 1, h => by
    rw [fb_ct_succ, fb_ct_succ, fb_ct_cong (fun k hk => h k (by omega)), h n (by omega)]
theorem fb_ct_out (p : Nat → Bool) (b : Bool) {i n : Nat} (h : n ≤ i) : fb_ct (fun k => if k = i then b else p k) n = fb_ct p n :=
  fb_ct_cong fun k hk => if_neg (by omega)
theorem fb_ct_upd (p : Nat → Bool) (b : Bool) {i : Nat} : ∀ {n : Nat}, i < n → fb_ct (fun k => if k = i then b else p k) n + (if p i then 1 else 0) = fb_ct p n + (if b then 1 else 0)
  | 0, h => absurd h (Nat.not_lt_zero i)
  | n + 1, h => by
    rw [fb_ct_succ, fb_ct_succ]
    rcases Nat.lt_or_ge i n with q | q
    · have := fb_ct_upd p b q
      have e : (if n = i then b else p n) = p n := if_neg (by omega)
      rw [e]
      omega
    · have e : i = n := by omega
      subst e
      rw [fb_ct_out p b (Nat.le_refl _)]
      simp only [if_true]
      omega
theorem fb_ct_sub {p q : Nat → Bool} : ∀ {n : Nat}, (∀ k, k < n → p k = true → q k = true) → fb_ct p n ≤ fb_ct q n
  | 0, _ => Nat.le_refl _
  | n + 1, h => by
    have h1 := fb_ct_sub (n := n) (p := p) (q := q) (fun k hk => h k (by omega))
    have h2 := h n (by omega)
    rw [fb_ct_succ, fb_ct_succ]
    cases hp : p n <;> cases hq : q n <;> simp_all <;> omega
theorem fb_ct_or {p q : Nat → Bool} : ∀ {n : Nat}, (∀ k, k < n → ¬ (p k = true ∧ q k = true)) → fb_ct (fun k => p k || q k) n = fb_ct p n + fb_ct q n
  | 0, _ => rfl
  | n + 1, h => by
    have h1 := fb_ct_or (n := n) (p := p) (q := q) (fun k hk => h k (by omega))
    have h2 := h n (by omega)
    rw [fb_ct_succ, fb_ct_succ, fb_ct_succ, h1]
    cases hp : p n <;> cases hq : q n <;> simp_all <;> omega
theorem fb_ct_not (p : Nat → Bool) : ∀ n, fb_ct p n + fb_ct (fun k => !p k) n = n
  | 0 => rfl
  | n + 1 => by
    have h := fb_ct_not p n
    rw [fb_ct_succ, fb_ct_succ]
    cases p n <;> simp <;> omega
theorem fb_ct_split (p : Nat → Bool) (m : Nat) : ∀ n, fb_ct p (m + n) = fb_ct p m + fb_ct (fun k => p (m + k)) n
  | 0 => rfl
  | n + 1 => by
    have h := fb_ct_split p m n
    show fb_ct p (m + n + 1) = _
    rw [fb_ct_succ, fb_ct_succ, h, Nat.add_assoc]
theorem fb_ct_zero {p : Nat → Bool} : ∀ {n : Nat}, fb_ct p n = 0 ↔ ∀ k, k < n → p k = false
  | 0 => ⟨fun _ k hk => absurd hk (Nat.not_lt_zero k), fun _ => rfl⟩
  | n + 1 => by
    have h := fb_ct_zero (p := p) (n := n)
    rw [fb_ct_succ]
    constructor
    · intro e k hk
      have e1 : fb_ct p n = 0 := by omega
      rcases Nat.lt_or_ge k n with q | q
      · exact h.mp e1 k q
      · have ek : k = n := by omega
        subst ek
        cases hp : p k
        · rfl
        · simp [hp] at e
    · intro a
      rw [h.mpr (fun k hk => a k (by omega)), a n (by omega)]
      rfl
theorem fb_ct_pos {p : Nat → Bool} {n : Nat} : 0 < fb_ct p n ↔ ∃ k, k < n ∧ p k = true := by
  constructor
  · intro h
    refine Classical.byContradiction fun hx => ?_
    have := fb_ct_zero.mpr (fun k hk => by
      cases hp : p k
      · rfl
      · exact absurd ⟨k, hk, hp⟩ hx : ∀ k, k < n → p k = false)
    omega
  · rintro ⟨k, hk, hp⟩
    rcases Nat.eq_zero_or_pos (fb_ct p n) with e | e
    · have := fb_ct_zero.mp e k hk
      rw [this] at hp
      cases hp
    · exact e
theorem fb_ct_all {p : Nat → Bool} {n : Nat} : fb_ct p n = n ↔ ∀ k, k < n → p k = true := by
  have h := fb_ct_not p n
  constructor
  · intro e k hk
    have z : fb_ct (fun k => !p k) n = 0 := by omega
    have := fb_ct_zero.mp z k hk
    cases hp : p k
    · simp [hp] at this
    · rfl
  · intro a
    have z : fb_ct (fun k => !p k) n = 0 := fb_ct_zero.mpr (fun k hk => by simp [a k hk])
    omega
def fb_sm (f : Nat → Nat) : Nat → Nat
  | 0 => 0
  | n + 1 => fb_sm f n + f n
theorem fb_sm_succ (f : Nat → Nat) (n : Nat) : fb_sm f (n + 1) = fb_sm f n + f n := rfl
theorem fb_sm_cong {f g : Nat → Nat} : ∀ {n : Nat}, (∀ k, k < n → f k = g k) → fb_sm f n = fb_sm g n
  | 0, _ => rfl
  | n + 1, h => by rw [fb_sm_succ, fb_sm_succ, fb_sm_cong (fun k hk => h k (by omega)), h n (by omega)]
theorem fb_sm_out (f : Nat → Nat) (v : Nat) {i n : Nat} (h : n ≤ i) : fb_sm (fun k => if k = i then v else f k) n = fb_sm f n :=
  fb_sm_cong fun k hk => if_neg (by omega)
theorem fb_sm_upd (f : Nat → Nat) (v : Nat) {i : Nat} : ∀ {n : Nat}, i < n → fb_sm (fun k => if k = i then v else f k) n + f i = fb_sm f n + v
  | 0, h => absurd h (Nat.not_lt_zero i)
  | n + 1, h => by
    rw [fb_sm_succ, fb_sm_succ]
    rcases Nat.lt_or_ge i n with q | q
    · have := fb_sm_upd f v q
      have e : (if n = i then v else f n) = f n := if_neg (by omega)
      rw [e]
      omega
    · have e : i = n := by omega
      subst e
      rw [fb_sm_out f v (Nat.le_refl _)]
      simp only [if_true]
      omega
theorem fb_sm_add (f g : Nat → Nat) : ∀ n, fb_sm (fun k => f k + g k) n = fb_sm f n + fb_sm g n
  | 0 => rfl
  | n + 1 => by
    have h := fb_sm_add f g n
    rw [fb_sm_succ, fb_sm_succ, fb_sm_succ, h]
    omega
theorem fb_sm_le {f g : Nat → Nat} : ∀ {n : Nat}, (∀ k, k < n → f k ≤ g k) → fb_sm f n ≤ fb_sm g n
  | 0, _ => Nat.le_refl _
  | n + 1, h => by
    have h1 := fb_sm_le (n := n) (f := f) (g := g) (fun k hk => h k (by omega))
    have h2 := h n (by omega)
    rw [fb_sm_succ, fb_sm_succ]
    omega
theorem fb_sm_const (c : Nat) : ∀ n, fb_sm (fun _ => c) n = n * c
  | 0 => by rw [Nat.zero_mul]; rfl
  | n + 1 => by rw [fb_sm_succ, fb_sm_const c n, Nat.succ_mul]
theorem fb_sm_bound {f : Nat → Nat} {c n : Nat} (h : ∀ k, k < n → f k ≤ c) : fb_sm f n ≤ n * c := by
  rw [← fb_sm_const c n]
  exact fb_sm_le h
theorem fb_sm_mono (f : Nat → Nat) (m : Nat) : ∀ n, fb_sm f m ≤ fb_sm f (m + n)
  | 0 => Nat.le_refl _
  | n + 1 => by
    have h := fb_sm_mono f m n
    show fb_sm f m ≤ fb_sm f (m + n + 1)
    rw [fb_sm_succ]
    omega
theorem fb_sm_part (f : Nat → Nat) {i n : Nat} (h : i < n) : fb_sm f i + f i ≤ fb_sm f n := by
  have := fb_sm_mono f (i + 1) (n - (i + 1))
  rw [fb_sm_succ, show i + 1 + (n - (i + 1)) = n by omega] at this
  exact this
theorem fb_sm_split (f : Nat → Nat) (m : Nat) : ∀ n, fb_sm f (m + n) = fb_sm f m + fb_sm (fun k => f (m + k)) n
  | 0 => rfl
  | n + 1 => by
    have h := fb_sm_split f m n
    show fb_sm f (m + n + 1) = _
    rw [fb_sm_succ, fb_sm_succ, h, Nat.add_assoc]
theorem fb_sm_zero {f : Nat → Nat} {n : Nat} (h : fb_sm f n = 0) : ∀ k, k < n → f k = 0 := fun k hk => by
  have := fb_sm_part f hk
  omega
def fb_put {α : Type} (f g : Nat → α) (a n : Nat) : Nat → α := fun k => if a ≤ k ∧ k < a + n then g (k - a) else f k
theorem fb_put_0 {α : Type} (f g : Nat → α) (a : Nat) : fb_put f g a 0 = f := funext fun k => if_neg (by omega)
theorem fb_put_in {α : Type} {f g : Nat → α} {a n k : Nat} (h1 : a ≤ k) (h2 : k < a + n) : fb_put f g a n k = g (k - a) := if_pos ⟨h1, h2⟩
theorem fb_put_out {α : Type} {f g : Nat → α} {a n k : Nat} (h : k < a ∨ a + n ≤ k) : fb_put f g a n k = f k := if_neg (by omega)
theorem fb_put_succ (f g : Nat → Int32) (a n : Nat) : upd (fb_put f g a n) (a + n) (g n) = fb_put f g a (n + 1) := by
  funext k
  by_cases h : k = a + n
  · subst h
    simp [upd, fb_put]
  · by_cases h1 : a ≤ k ∧ k < a + n
    · have h2 : a ≤ k ∧ k < a + (n + 1) := by omega
      simp only [upd, fb_put, if_neg h, if_pos h1, if_pos h2]
    · have h2 : ¬ (a ≤ k ∧ k < a + (n + 1)) := by omega
      simp only [upd, fb_put, if_neg h, if_neg h1, if_neg h2]
theorem fa_lt (a b : Int32) : a < b ↔ a.toInt < b.toInt := Int32.lt_iff_toInt_lt
theorem fa_le (a b : Int32) : a ≤ b ↔ a.toInt ≤ b.toInt := Int32.le_iff_toInt_le
theorem fa_eq (a b : Int32) : a = b ↔ a.toInt = b.toInt := Int32.toInt_inj.symm
theorem fa_of_lt {a b : Int32} (h : a < b) : a ≤ b ∧ ¬ b ≤ a ∧ ¬ b < a ∧ a ≠ b ∧ b ≠ a := by
  rw [fa_lt] at h
  refine ⟨?_, ?_, ?_, ?_, ?_⟩
  · rw [fa_le]; omega
  · rw [fa_le]; omega
  · rw [fa_lt]; omega
  · intro e; rw [fa_eq] at e; omega
  · intro e; rw [fa_eq] at e; omega
theorem fa_of_nlt {a b : Int32} (h : ¬ a < b) : b ≤ a := by
  rw [fa_lt] at h
  rw [fa_le]
  omega
theorem fa_of_nle {a b : Int32} (h : ¬ a ≤ b) : b < a := by
  rw [fa_le] at h
  rw [fa_lt]
  omega
theorem fa_le_ne {a b : Int32} (h : a ≤ b) (h2 : a ≠ b) : a < b := by
  rw [fa_le] at h
  rw [fa_lt]
  have h3 : a.toInt ≠ b.toInt := fun e => h2 ((fa_eq a b).mpr e)
  omega
theorem fa_three (a b : Int32) : a < b ∨ a = b ∨ b < a := by
  rw [fa_lt, fa_lt, fa_eq]
  omega
theorem fa_trans {a b c : Int32} (h : a < b) (h2 : b ≤ c) : a < c := by
  rw [fa_lt] at *
  rw [fa_le] at h2
  omega
theorem fa_lit (n : Nat) : (OfNat.ofNat n : Int32) = nI n := rfl
theorem fa_byte_small {n : Nat} (h : n < 128) : (nI n).toInt8.toInt32 = nI n := by
  have : ∀ j : Fin 128, (nI j.val).toInt8.toInt32 = nI j.val := by decide +kernel
  exact this ⟨n, h⟩
theorem fa_upd_same {f : Nat → Int32} {i : Nat} {x : Int32} (h : f i = x) : upd f i x = f := by
  funext k
  by_cases e : k = i
  · subst e
    rw [pk_us, h]
  · rw [pk_un e]
theorem fa_upd_if (c : Prop) [Decidable c] (f : Nat → Int32) (i : Nat) (x : Int32) : (if c then upd f i x else f) = upd f i (if c then x else f i) := by
  by_cases h : c
  · rw [if_pos h, if_pos h]
  · rw [if_neg h, if_neg h, fa_upd_same rfl]
theorem fa_upd_twice (f : Nat → Int32) (i : Nat) (x y : Int32) : upd (upd f i x) i y = upd f i y := by
  funext k
  by_cases e : k = i
  · subst e
    rw [pk_us, pk_us]
  · rw [pk_un e, pk_un e, pk_un e]
theorem fa_upd_swap (f : Nat → Int32) {i j : Nat} (h : i ≠ j) (x y : Int32) : upd (upd f i x) j y = upd (upd f j y) i x := by
  funext k
  by_cases e : k = i
  · subst e
    rw [pk_un h, pk_us, pk_us]
  · by_cases e2 : k = j
    · subst e2
      rw [pk_us, pk_un e, pk_us]
    · rw [pk_un e2, pk_un e, pk_un e, pk_un e2]
end
section
set_option maxRecDepth 100000
/-- Java's boolean -/
def bI (b : Bool) : Int32 := if b then 1 else 0
theorem bI_nar (b : Bool) : narrow .boolean (.int (bI b)) = .int (bI b) := by cases b <;> rfl
theorem bI_vz (b : Bool) : vp_nar .boolean (bI b) = bI b := by cases b <;> rfl
theorem bI_t : bI true = 1 := rfl
theorem bI_f : bI false = 0 := rfl
theorem bI_eq0 {b : Bool} : bI b = 0 ↔ b = false := by cases b <;> decide
theorem bI_inj {a b : Bool} : bI a = bI b ↔ a = b := by cases a <;> cases b <;> decide
theorem nI_inj {a b : Nat} (ha : a < 2 ^ 31) (hb : b < 2 ^ 31) (h : nI a = nI b) : a = b := (nI_eq ha hb).mp h
theorem m1_ne {a : Nat} (ha : a < 2 ^ 31) : ¬ (-1 : Int32) = nI a := fun h => nI_pos ha (by rw [← h]; decide)
theorem nI_ne1 {a : Nat} (ha : a < 2 ^ 31) : ¬ nI a = (-1 : Int32) := fun h => m1_ne ha h.symm
theorem i32_le_refl (a : Int32) : a ≤ a := (fa_le a a).mpr (Int.le_refl _)
theorem i32_le_trans {a b c : Int32} (h : a ≤ b) (h2 : b ≤ c) : a ≤ c := (fa_le a c).mpr (Int.le_trans ((fa_le a b).mp h) ((fa_le b c).mp h2))
/-- the leaf (or -1) under x, at height l, for the key k -/
def lf (ch : Nat → Int32) : Nat → Int32 → Nat → Int32
  | 0, x, _ => x
  | l + 1, x, k => if x < 0 then x else lf ch l (ch (2 * x.toNatClampNeg + k / 2 ^ l % 2)) k
/-- a tree of height l at x: its nodes below N, stamps not later than their parents' -/
def TV (ch st : Nat → Int32) (N : Nat) : Nat → Int32 → Prop
  | 0, x => x = -1 ∨ ∃ n, n < N ∧ x = nI n
  | l + 1, x => x = -1 ∨ ∃ n, n < N ∧ x = nI n ∧ ∀ b, b < 2 → TV ch st N l (ch (2 * n + b)) ∧ ∀ m, m < N → ch (2 * n + b) = nI m → st m ≤ st n
section TR
variable {ch ch' st st' : Nat → Int32} {N N' : Nat}
theorem TV.cs {l : Nat} {x : Int32} (h : TV ch st N l x) : x = -1 ∨ ∃ n, n < N ∧ x = nI n := by
  cases l with
  | zero => exact h
  | succ l =>
    rcases h with h | ⟨n, h1, h2, -⟩
    · exact Or.inl h
    · exact Or.inr ⟨n, h1, h2⟩
theorem TV.m1 (l : Nat) : TV ch st N l (-1) := by
  cases l with
  | zero => exact Or.inl rfl
  | succ l => exact Or.inl rfl
theorem lf_neg {x : Int32} (h : x < 0) (l k : Nat) : lf ch l x k = x := by
  cases l with
  | zero => rfl
  | succ l => show (if x < 0 then x else _) = x; rw [if_pos h]
theorem lf_m1 (l k : Nat) : lf ch l (-1) k = -1 := lf_neg (by decide) l k
theorem lf_nd {n : Nat} (hn : n < 2 ^ 31) (l k : Nat) : lf ch (l + 1) (nI n) k = lf ch l (ch (2 * n + k / 2 ^ l % 2)) k := by
  show (if nI n < 0 then _ else _) = _
  rw [if_neg (nI_pos hn), nI_clamp hn]
theorem TV.kid {l n : Nat} (h : TV ch st N (l + 1) (nI n)) (hN : N ≤ 512) (hn : n < 2 ^ 31) {b : Nat} (hb : b < 2) : TV ch st N l (ch (2 * n + b)) ∧ n < N ∧ ∀ m, m < N → ch (2 * n + b) = nI m → st m ≤ st n := by
  rcases h with h | ⟨n', h1, h2, h3⟩
  · exact absurd h (nI_ne1 hn)
  · have e := nI_inj hn (by omega) h2
    subst e
    exact ⟨(h3 b hb).1, h1, (h3 b hb).2⟩
theorem lf_ok (hN : N ≤ 512) : ∀ (l : Nat) (x : Int32), TV ch st N l x → ∀ k, lf ch l x k = -1 ∨ ∃ m, m < N ∧ lf ch l x k = nI m ∧ ∀ n, n < N → x = nI n → st m ≤ st n := by
  intro l
  induction l with
  | zero =>
    intro x h k
    rcases h with h | ⟨n, h1, h2⟩
    · exact Or.inl h
    · refine Or.inr ⟨n, h1, h2, fun n' h3 h4 => ?_⟩
      have e := nI_inj (by omega) (by omega) (h2.symm.trans h4)
      subst e
      exact i32_le_refl _
  | succ l ih =>
    intro x h k
    rcases h with h | ⟨n, h1, h2, h3⟩
    · rw [h, lf_m1]; exact Or.inl rfl
    · subst h2
      rw [lf_nd (by omega)]
      obtain ⟨g1, g2⟩ := h3 (k / 2 ^ l % 2) (Nat.mod_lt _ (by decide))
      rcases ih _ g1 k with h | ⟨m, h4, h5, h6⟩
      · exact Or.inl h
      · rcases g1.cs with q | ⟨c, q1, q2⟩
        · rw [q, lf_m1]; exact Or.inl rfl
        · refine Or.inr ⟨m, h4, h5, fun n' h7 h8 => ?_⟩
          have e := nI_inj (by omega) (by omega) h8
          subst e
          exact i32_le_trans (h6 c q1 q2) (g2 c q1 q2)
theorem lf_frame (hN : N ≤ 512) (hch : ∀ i, i < 2 * N → ch' i = ch i) : ∀ (l : Nat) (x : Int32), TV ch st N l x → ∀ k, lf ch' l x k = lf ch l x k := by
  intro l
  induction l with
  | zero => intro x h k; rfl
  | succ l ih =>
    intro x h k
    rcases h with h | ⟨n, h1, h2, h3⟩
    · rw [h, lf_m1, lf_m1]
    · subst h2
      have hb : k / 2 ^ l % 2 < 2 := Nat.mod_lt _ (by decide)
      rw [lf_nd (by omega), lf_nd (by omega), hch _ (by omega)]
      exact ih _ (h3 _ hb).1 k
theorem TV.mono (hN : N ≤ N') (hN' : N' ≤ 512) (hch : ∀ i, i < 2 * N → ch' i = ch i) (hst : ∀ i, i < N → st' i = st i) : ∀ (l : Nat) (x : Int32), TV ch st N l x → TV ch' st' N' l x := by
  intro l
  induction l with
  | zero =>
    intro x h
    rcases h with h | ⟨n, h1, h2⟩
    · exact Or.inl h
    · exact Or.inr ⟨n, by omega, h2⟩
  | succ l ih =>
    intro x h
    rcases h with h | ⟨n, h1, h2, h3⟩
    · exact Or.inl h
    · refine Or.inr ⟨n, by omega, h2, fun b hb => ?_⟩
      obtain ⟨g1, g2⟩ := h3 b hb
      rw [hch _ (by omega)]
      refine ⟨ih _ g1, fun m hm he => ?_⟩
      rcases g1.cs with q | ⟨c, q1, q2⟩
      · exact absurd (q.symm.trans he) (m1_ne (by omega))
      · have e := nI_inj (by omega) (by omega) (q2.symm.trans he)
        subst e
        rw [hst _ q1, hst _ h1]
        exact g2 c q1 q2
/-- the key k was written behind the state q, in the tree x -/
def lat (ch st : Nat → Int32) (q : Int32) (l : Nat) (x : Int32) (k : Nat) : Bool := decide (0 ≤ lf ch l x k ∧ q < st (lf ch l x k).toNatClampNeg)
def ctT (ch st : Nat → Int32) (q set : Int32) (l : Nat) (x : Int32) (key : Nat) : Nat := fb_ct (fun j => bt set (key + j) && lat ch st q l x (key + j)) (2 ^ l)
variable {q set : Int32}
theorem ctT_neg {x : Int32} (h : x < 0) (l key : Nat) : ctT ch st q set l x key = 0 := by
  refine fb_ct_zero.mpr (fun k _ => ?_)
  have : lat ch st q l x (key + k) = false := decide_eq_false (fun z => by
    rw [lf_neg h] at z
    exact (fa_of_lt h).2.1 z.1)
  rw [this, Bool.and_false]
theorem ctT_m1 (l key : Nat) : ctT ch st q set l (-1) key = 0 := ctT_neg (by decide) l key
theorem ctT_out {l key : Nat} {x : Int32} (h : ∀ j, j < 2 ^ l → bt set (key + j) = false) : ctT ch st q set l x key = 0 := by
  refine fb_ct_zero.mpr (fun k hk => ?_)
  rw [h k hk, Bool.false_and]
theorem ctT_old (hN : N ≤ 512) {l n : Nat} (hT : TV ch st N l (nI n)) (hn : n < N) (hq : st n ≤ q) (key : Nat) : ctT ch st q set l (nI n) key = 0 := by
  refine fb_ct_zero.mpr (fun k _ => ?_)
  have : lat ch st q l (nI n) (key + k) = false := decide_eq_false (fun z => by
    rcases lf_ok hN l _ hT (key + k) with h | ⟨m, h1, h2, h3⟩
    · rw [h] at z
      exact absurd z.1 (by decide)
    · rw [h2, nI_clamp (by omega)] at z
      have h4 := i32_le_trans (h3 n hn rfl) hq
      exact (fa_of_lt z.2).2.1 h4)
  rw [this, Bool.and_false]
theorem ctT_leaf {n key : Nat} (hn : n < 2 ^ 31) (hb : bt set key = true) (hq : q < st n) : ctT ch st q set 0 (nI n) key = 1 := by
  have : lat ch st q 0 (nI n) key = true := decide_eq_true (by
    show 0 ≤ nI n ∧ q < st (nI n).toNatClampNeg
    rw [nI_clamp hn]
    exact ⟨nI_pos' hn, hq⟩)
  show fb_ct _ 1 = 1
  show fb_ct _ 0 + _ = 1
  simp [fb_ct, hb, this]
theorem bit_lo {l key j : Nat} (hk : key % 2 ^ (l + 1) = 0) (hj : j < 2 ^ l) : (key + j) / 2 ^ l % 2 = 0 ∧ (key + 2 ^ l + j) / 2 ^ l % 2 = 1 := by
  obtain ⟨z, rfl⟩ := Nat.dvd_of_mod_eq_zero hk
  have hp : 0 < 2 ^ l := Nat.two_pow_pos l
  have e1 : 2 ^ (l + 1) * z + j = 2 ^ l * (2 * z) + j := by rw [Nat.pow_succ]; rw [Nat.mul_assoc]
  have e2 : 2 ^ (l + 1) * z + 2 ^ l + j = 2 ^ l * (2 * z + 1) + j := by rw [Nat.pow_succ, Nat.mul_add, Nat.mul_assoc, Nat.mul_one]
  rw [e1, e2, Nat.mul_add_div hp, Nat.mul_add_div hp, Nat.div_eq_of_lt hj]
  omega
theorem ctT_node {l n key : Nat} (hn : n < 2 ^ 31) (hk : key % 2 ^ (l + 1) = 0) : ctT ch st q set (l + 1) (nI n) key = ctT ch st q set l (ch (2 * n)) key + ctT ch st q set l (ch (2 * n + 1)) (key + 2 ^ l) := by
  unfold ctT
  rw [show 2 ^ (l + 1) = 2 ^ l + 2 ^ l by rw [Nat.pow_succ]; omega, fb_ct_split]
  congr 1
  · refine fb_ct_cong (fun j hj => ?_)
    show (_ && decide _) = (_ && decide _)
    rw [lf_nd hn, (bit_lo hk hj).1, Nat.add_zero]
  · refine fb_ct_cong (fun j hj => ?_)
    show (_ && decide _) = (_ && decide _)
    rw [lf_nd hn, ← Nat.add_assoc, (bit_lo hk hj).2]
theorem ctT_whole {x : Int32} : ctT ch st q set 5 x 0 = fb_ct (fun k => bt set k && lat ch st q 5 x k) 32 := by
  unfold ctT
  refine fb_ct_cong (fun j _ => ?_)
  rw [Nat.zero_add]
/-- the way down to the key k -/
def pth (ch : Nat → Int32) (x : Int32) (k : Nat) : Nat → Int32
  | 0 => x
  | i + 1 => if pth ch x k i < 0 then pth ch x k i else ch (2 * (pth ch x k i).toNatClampNeg + k / 2 ^ (4 - i) % 2)
theorem pth_neg {x : Int32} {k i : Nat} (h : pth ch x k i < 0) : pth ch x k (i + 1) = pth ch x k i := by
  show (if _ then _ else _) = _
  rw [if_pos h]
theorem pth_nd {x : Int32} {k i n : Nat} (h : pth ch x k i = nI n) (hn : n < 2 ^ 31) : pth ch x k (i + 1) = ch (2 * n + k / 2 ^ (4 - i) % 2) := by
  show (if _ then _ else _) = _
  rw [h, if_neg (nI_pos hn), nI_clamp hn]
theorem TV_pth (hN : N ≤ 512) {x : Int32} (h : TV ch st N 5 x) (k : Nat) : ∀ i, i ≤ 5 → TV ch st N (5 - i) (pth ch x k i) := by
  intro i
  induction i with
  | zero => intro _; exact h
  | succ i ih =>
    intro hi
    have h1 := ih (by omega)
    rcases h1.cs with e | ⟨n, e1, e2⟩
    · rw [pth_neg (by rw [e]; decide), e]
      exact TV.m1 _
    · rw [pth_nd e2 (by omega)]
      rw [e2, show 5 - i = 5 - (i + 1) + 1 by omega] at h1
      exact (h1.kid hN (by omega) (Nat.mod_lt _ (by decide))).1
/-- the leaf by the way down -/
theorem lf_pth (hN : N ≤ 512) {x : Int32} (h : TV ch st N 5 x) (k : Nat) : ∀ i, i ≤ 5 → lf ch 5 x k = lf ch (5 - i) (pth ch x k i) k := by
  intro i
  induction i with
  | zero => intro _; rfl
  | succ i ih =>
    intro hi
    rw [ih (by omega)]
    rcases (TV_pth hN h k i (by omega)).cs with e | ⟨n, e1, e2⟩
    · rw [pth_neg (by rw [e]; decide), e, lf_m1, lf_m1]
    · rw [pth_nd e2 (by omega), e2, show 5 - i = 5 - (i + 1) + 1 by omega, lf_nd (by omega), show 5 - (i + 1) = 4 - i by omega]
/-- COPYING THE WAY: what stands when b levels above the new leaf N are made -/
def PB (ch st : Nat → Int32) (N : Nat) (x : Int32) (k : Nat) (La : Int32) (b : Nat) (ch' st' : Nat → Int32) : Prop :=
  (∀ i, i < 2 * N → ch' i = ch i) ∧ (∀ i, i < N → st' i = st i) ∧ (∀ i, N ≤ i → i < N + b + 1 → st' i = La) ∧ TV ch' st' (N + b + 1) b (nI (N + b)) ∧
  ∀ k', lf ch' b (nI (N + b)) k' = if k' % 2 ^ b = k % 2 ^ b then nI N else lf ch b (pth ch x k (5 - b)) k'
theorem PB_0 {x La : Int32} {k : Nat} (hN : N + 6 ≤ 512) (h1 : ∀ i, i < 2 * N → ch' i = ch i) (h2 : ∀ i, i < N → st' i = st i) (h3 : st' N = La) : PB ch st N x k La 0 ch' st' := by
  refine ⟨h1, h2, fun i h4 h5 => ?_, Or.inr ⟨N, by omega, rfl⟩, fun k' => ?_⟩
  · have : i = N := by omega
    subst this
    exact h3
  · rw [if_pos (by rw [Nat.pow_zero, Nat.mod_one, Nat.mod_one])]
    rfl
theorem mod_bit (k' k b : Nat) : k' % 2 ^ (b + 1) = k % 2 ^ (b + 1) ↔ k' / 2 ^ b % 2 = k / 2 ^ b % 2 ∧ k' % 2 ^ b = k % 2 ^ b := by
  rw [Nat.mod_pow_succ, Nat.mod_pow_succ]
  have h1 : k' % 2 ^ b < 2 ^ b := Nat.mod_lt _ (Nat.two_pow_pos b)
  have h2 : k % 2 ^ b < 2 ^ b := Nat.mod_lt _ (Nat.two_pow_pos b)
  have h3 : k' / 2 ^ b % 2 < 2 := Nat.mod_lt _ (by decide)
  have h4 : k / 2 ^ b % 2 < 2 := Nat.mod_lt _ (by decide)
  constructor
  · intro h
    rcases (show k' / 2 ^ b % 2 = 0 ∨ k' / 2 ^ b % 2 = 1 by omega) with a | a <;> rcases (show k / 2 ^ b % 2 = 0 ∨ k / 2 ^ b % 2 = 1 by omega) with c | c <;> rw [a, c] at h <;> rw [a, c] <;> omega
  · rintro ⟨a, c⟩
    rw [a, c]
theorem PB_s {x La : Int32} {k b : Nat} {cb sb c2 s2 : Nat → Int32} (hb : b < 5) (hN : N + 6 ≤ 512) (hT : TV ch st N 5 x) (hst : ∀ i, i < N → st i ≤ La) (h : PB ch st N x k La b cb sb)
    (hc : ∀ i, i < 2 * (N + b + 1) → c2 i = cb i) (hs : ∀ i, i < N + b + 1 → s2 i = sb i) (hsn : s2 (N + b + 1) = La)
    (hside : c2 (2 * (N + b + 1) + k / 2 ^ b % 2) = nI (N + b)) (hsib : c2 (2 * (N + b + 1) + (1 - k / 2 ^ b % 2)) = if pth ch x k (4 - b) < 0 then -1 else ch (2 * (pth ch x k (4 - b)).toNatClampNeg + (1 - k / 2 ^ b % 2))) : PB ch st N x k La (b + 1) c2 s2 := by
  obtain ⟨p1, p2, p3, p4, p5⟩ := h
  have q1 : ∀ i, i < 2 * N → c2 i = ch i := fun i hi => (hc i (by omega)).trans (p1 i hi)
  have q2 : ∀ i, i < N → s2 i = st i := fun i hi => (hs i (by omega)).trans (p2 i hi)
  have hk2 : k / 2 ^ b % 2 < 2 := Nat.mod_lt _ (by decide)
  have hTp := TV_pth (by omega) hT k (4 - b) (by omega)
  rw [show 5 - (4 - b) = b + 1 by omega] at hTp
  -- the sibling
  have hsv : TV ch st N b (c2 (2 * (N + b + 1) + (1 - k / 2 ^ b % 2))) := by
    rw [hsib]
    rcases hTp.cs with e | ⟨n, e1, e2⟩
    · rw [if_pos (by rw [e]; decide)]; exact TV.m1 _
    · rw [e2, if_neg (nI_pos (by omega)), nI_clamp (by omega)]
      rw [e2] at hTp
      exact (hTp.kid (by omega) (by omega) (by omega)).1
  have hnew : TV c2 s2 (N + b + 1 + 1) b (nI (N + b)) := TV.mono (by omega) (by omega) hc hs b _ p4
  refine ⟨q1, q2, fun i h4 h5 => ?_, Or.inr ⟨N + b + 1, by omega, rfl, fun c hc2 => ?_⟩, fun k' => ?_⟩
  · rcases Nat.lt_or_ge i (N + b + 1) with g | g
    · rw [hs i g]; exact p3 i h4 g
    · have : i = N + b + 1 := by omega
      subst this
      exact hsn
  · by_cases e : c = k / 2 ^ b % 2
    · subst e
      rw [hside]
      refine ⟨hnew, fun m hm he => ?_⟩
      have e := nI_inj (by omega) (by omega) he
      subst e
      rw [hsn, hs _ (by omega), p3 _ (by omega) (by omega)]
      exact i32_le_refl _
    · have e2 : c = 1 - k / 2 ^ b % 2 := by omega
      subst e2
      refine ⟨TV.mono (by omega) (by omega) q1 q2 b _ hsv, fun m hm he => ?_⟩
      rcases hsv.cs with q | ⟨c3, g1, g2⟩
      · exact absurd (q.symm.trans he) (m1_ne (by omega))
      · have e := nI_inj (by omega) (by omega) (g2.symm.trans he)
        subst e
        rw [hsn, q2 _ g1]
        exact hst _ g1
  · show lf c2 (b + 1) (nI (N + b + 1)) k' = _
    rw [lf_nd (by omega)]
    have hk3 : k' / 2 ^ b % 2 < 2 := Nat.mod_lt _ (by decide)
    by_cases e : k' / 2 ^ b % 2 = k / 2 ^ b % 2
    · rw [e, hside, lf_frame (by omega) hc b _ p4, p5 k']
      by_cases e2 : k' % 2 ^ b = k % 2 ^ b
      · rw [if_pos e2, if_pos ((mod_bit k' k b).mpr ⟨e, e2⟩)]
      · rw [if_neg e2, if_neg (fun z => e2 ((mod_bit k' k b).mp z).2)]
        rcases hTp.cs with g | ⟨n, g1, g2⟩
        · rw [show 5 - b = 4 - b + 1 by omega, pth_neg (by rw [g]; decide), show 5 - (b + 1) = 4 - b by omega, g, lf_m1, lf_m1]
        · rw [show 5 - b = 4 - b + 1 by omega, pth_nd g2 (by omega), show 4 - (4 - b) = b by omega, show 5 - (b + 1) = 4 - b by omega, g2, lf_nd (by omega), e]
    · have e3 : k' / 2 ^ b % 2 = 1 - k / 2 ^ b % 2 := by omega
      rw [if_neg (fun z => e ((mod_bit k' k b).mp z).1), e3, lf_frame (by omega) q1 b _ hsv, hsib, show 5 - (b + 1) = 4 - b by omega]
      rcases hTp.cs with g | ⟨n, g1, g2⟩
      · rw [g, if_pos (by decide), lf_m1, lf_m1]
      · rw [g2, if_neg (nI_pos (by omega)), nI_clamp (by omega), lf_nd (by omega), e3]
theorem PB_5 {x La : Int32} {k : Nat} {c5 s5 : Nat → Int32} (hk : k < 32) (h : PB ch st N x k La 5 c5 s5) : TV c5 s5 (N + 6) 5 (nI (N + 5)) ∧ ∀ k', k' < 32 → lf c5 5 (nI (N + 5)) k' = if k' = k then nI N else lf ch 5 x k' := by
  obtain ⟨-, -, -, p4, p5⟩ := h
  refine ⟨p4, fun k' hk' => ?_⟩
  rw [p5 k', show (2 : Nat) ^ 5 = 32 from rfl, Nat.mod_eq_of_lt hk, Nat.mod_eq_of_lt hk']
  rfl
end TR
/-- the key k is there, in the tree x; its value -/
def khB (ch hv : Nat → Int32) (x : Int32) (k : Nat) : Bool := decide (0 ≤ lf ch 5 x k ∧ ¬ hv (lf ch 5 x k).toNatClampNeg = 0)
def kvB (ch lv : Nat → Int32) (x : Int32) (k : Nat) : Int32 := lv (lf ch 5 x k).toNatClampNeg
theorem khB_m1 {ch hv : Nat → Int32} {x : Int32} {k : Nat} (g : lf ch 5 x k = -1) : khB ch hv x k = false := decide_eq_false (fun z => by
  rw [g] at z
  exact absurd z.1 (by decide))
theorem khB_0 {ch hv : Nat → Int32} {x : Int32} {k q : Nat} (hq : q < 2 ^ 31) (g : lf ch 5 x k = nI q) (h : hv q = 0) : khB ch hv x k = false := decide_eq_false (fun z => by
  rw [g, nI_clamp hq] at z
  exact z.2 h)
theorem khB_1 {ch hv : Nat → Int32} {x : Int32} {k q : Nat} (hq : q < 2 ^ 31) (g : lf ch 5 x k = nI q) (h : ¬ hv q = 0) : khB ch hv x k = true := decide_eq_true (by
  rw [g, nI_clamp hq]
  exact ⟨nI_pos' hq, h⟩)
theorem kvB_nd {ch lv : Nat → Int32} {x : Int32} {k q : Nat} (hq : q < 2 ^ 31) (g : lf ch 5 x k = nI q) : kvB ch lv x k = lv q := by
  unfold kvB
  rw [g, nI_clamp hq]
/-- what the transaction t sees, with v writes: f k, is the key k there; g k, its value -/
def VW (σ : Nat → Nat → Int32) (t v : Nat) (f : Nat → Bool) (g : Nat → Int32) : Prop :=
  ∀ k, k < 32 → (∀ j, j < v → σ 14 (6 * t + j) = nI k → σ 16 (6 * t + j) = bI (f k) ∧ σ 15 (6 * t + j) = if f k then g k else 0) ∧
    ((∀ j, j < v → ¬ σ 14 (6 * t + j) = nI k) → khB (σ 0) (σ 2) (σ 11 t) k = f k ∧ (f k = true → kvB (σ 0) (σ 1) (σ 11 t) k = g k))
theorem kbit {k u : Nat} (hk : k < 32) (hu : u < 32) : (nI k >>> (nI u &&& 31)) &&& nI 1 = nI (k / 2 ^ u % 2) := by
  rw [pk_shrN (by omega) (nI u &&& 31) u (s_l u hu)]
  have h1 : k / 2 ^ u ≤ k := Nat.div_le_self _ _
  rw [pk_andN (by omega) (m := nI 1) 1 rfl]
def bitv : Nat → Int32
  | 0 => -1
  | u + 1 => nI u
theorem bitv_dec (u : Nat) : nI u + Int32.ofInt (-1) = bitv u := by
  cases u with
  | zero => decide
  | succ u => exact pk_m1 u
theorem nb_small {n : Nat} (h : n < 128) : vp_nar .byte (nI n) = nI n := by rw [vp_nar_byte, fa_byte_small h]
theorem ns_i2s {n : Nat} (h : n < 512) : (nI n).toInt16.toInt32 = nI n := (by decide +kernel : ∀ n, n < 512 → (nI n).toInt16.toInt32 = nI n) n h
theorem ns_small {n : Nat} (h : n < 512) : vp_nar .short (nI n) = nI n := by rw [vp_nar_short, ns_i2s h]
theorem ns_m1 : vp_nar .short (-1) = -1 := by rw [vp_nar_short]; decide
theorem ns_tv {ch st : Nat → Int32} {N l : Nat} {x : Int32} (hN : N ≤ 512) (h : TV ch st N l x) : vp_nar .short x = x ∧ x.toInt16.toInt32 = x := by
  rcases h.cs with e | ⟨n, h1, e⟩
  · rw [e]; exact ⟨ns_m1, by decide⟩
  · rw [e]; exact ⟨ns_small (by omega), ns_i2s (by omega)⟩
theorem i32_nlt_self (a : Int32) : ¬ a < a := fun z => (fa_of_lt z).2.2.1 z
theorem bI_ne0 {b : Bool} (h : ¬ bI b = 0) : b = true := by
  cases b
  · exact absurd rfl h
  · rfl
theorem kept_n {L s : Nat} (hL : L < 1000) (h0 : s ≤ L) (h : L < s + 6) : ¬ nI s ≤ nI L - nI 6 := fun z => by
  have h1 := (fa_le _ _).mp z
  rw [pk_sub_toInt (by omega) (by omega), nI_toInt (by omega)] at h1
  omega
theorem kept_y {L s : Nat} (hL : L < 1000) (h0 : s ≤ L) (h : s + 6 ≤ L) : nI s ≤ nI L - nI 6 := by
  refine (fa_le _ _).mpr ?_
  rw [pk_sub_toInt (by omega) (by omega), nI_toInt (by omega)]
  omega
theorem i32_nat {x : Int32} {L : Nat} (hL : L < 1000) (h1 : ¬ x < 0) (h2 : ¬ nI L < x) : ∃ s, x = nI s ∧ s ≤ L := by
  obtain ⟨j, hj, e⟩ := nI_of h1
  refine ⟨j, e, ?_⟩
  rcases Nat.lt_or_ge L j with z | z
  · exact absurd (by rw [e]; exact nI_lt z hj) h2
  · exact z
theorem kept_of {x : Int32} {L : Nat} (hL : L < 1000) (h1 : ¬ x < 0) (h2 : ¬ nI L < x) (h3 : ¬ x ≤ nI L - nI 6) : ∃ s, x = nI s ∧ s ≤ L ∧ L < s + 6 := by
  obtain ⟨s, e, hs⟩ := i32_nat hL h1 h2
  refine ⟨s, e, hs, ?_⟩
  rcases Nat.lt_or_ge L (s + 6) with z | z
  · exact z
  · exact absurd (by rw [e]; exact kept_y hL hs z) h3
/-- the bits a, a + 1 .. put into a set -/
def orr (x : Int32) (a : Nat) : Nat → Int32
  | 0 => x
  | q + 1 => orr x a q ||| (nI 1 <<< (nI (a + q) &&& 31))
end
section
set_option maxRecDepth 100000
set_option maxHeartbeats 4000000 in
set_option maxRecDepth 100000 in
theorem x_check_bad (σ : ST) (t a b : Int32) (hbad : t < 0 ∨ nI 3 < t ∨ a < 0 ∨ nI 31 < b ∨ b < a) : KMi WX tX yX0_check cX0_check 4 (some .int) 0 [.int (t), .int (a), .int (b)] σ (fun r σ' => r = -1 ∧ σ' = σ) := by
  refine KMi.ofI (own := RX0) (by decide +kernel) rfl (fun _ => Nat.le_of_ble_eq_true rfl) ?_
  intro p l e s m args below meth c D h ad d A ls Q E w ret hl
  have hx := E.1
  have hb := E.2.1
  have hl : lv_has ls 4 [(0, .ref h), (1, .int (t)), (2, .int (a)), (3, .int (b))] := hl
  refine lv_iload_n hx hb dX0_check_0 rfl (lv_at hl 1 rfl) ?_
  refine lv_if_lt (tgt := 24) hx hb dX0_check_1 (by decide) (fun c1 => ?_) (fun c1 => ?_)
  · refine lv_iconst (v := (-1)) hx hb dX0_check_24 (by decide) ?_
    exact ret _ _ _ _ _ _ (⟨rfl, rfl⟩) w dX0_check_25
  · refine lv_iload_n hx hb dX0_check_4 rfl (lv_at hl 1 rfl) ?_
    refine lv_iconst (v := (nI (3))) hx hb dX0_check_5 (by decide) ?_
    refine lv_icmp_gt (tgt := 24) hx hb dX0_check_6 (by decide) (fun c2 => ?_) (fun c2 => ?_)
    · refine lv_iconst (v := (-1)) hx hb dX0_check_24 (by decide) ?_
      exact ret _ _ _ _ _ _ (⟨rfl, rfl⟩) w dX0_check_25
    · refine lv_iload_n hx hb dX0_check_9 rfl (lv_at hl 2 rfl) ?_
      refine lv_if_lt (tgt := 24) hx hb dX0_check_10 (by decide) (fun c3 => ?_) (fun c3 => ?_)
      · refine lv_iconst (v := (-1)) hx hb dX0_check_24 (by decide) ?_
        exact ret _ _ _ _ _ _ (⟨rfl, rfl⟩) w dX0_check_25
      · refine lv_iload_n hx hb dX0_check_13 rfl (lv_at hl 3 rfl) ?_
        refine lv_bipush (v := (nI (31))) hx hb dX0_check_14 (by decide) ?_
        refine lv_icmp_gt (tgt := 24) hx hb dX0_check_16 (by decide) (fun c4 => ?_) (fun c4 => ?_)
        · refine lv_iconst (v := (-1)) hx hb dX0_check_24 (by decide) ?_
          exact ret _ _ _ _ _ _ (⟨rfl, rfl⟩) w dX0_check_25
        · refine lv_iload_n hx hb dX0_check_19 rfl (lv_at hl 2 rfl) ?_
          refine lv_iload_n hx hb dX0_check_20 rfl (lv_at hl 3 rfl) ?_
          refine lv_icmp_le (tgt := 26) hx hb dX0_check_21 (by decide) (fun hn => absurd hn ((fa_of_lt ((((hbad.resolve_left c1).resolve_left c2).resolve_left c3).resolve_left c4)).2.1)) (fun _ => ?_)
          refine lv_iconst (v := (-1)) hx hb dX0_check_24 (by decide) ?_
          exact ret _ _ _ _ _ _ (⟨rfl, rfl⟩) w dX0_check_25
set_option maxHeartbeats 4000000 in
set_option maxRecDepth 100000 in
theorem x_check_ok (σ : ST) (t a b : Nat) (ht : t < 4) (hab : a ≤ b) (hb32 : b < 32) : KMi WX tX yX0_check cX0_check 4 (some .int) 0 [.int (nI (t)), .int (nI (a)), .int (nI (b))] σ (fun r σ' => (σ 9 t = 0 → r = -3) ∧ (¬ σ 9 t = 0 → r = nI 0) ∧ σ' = σ) := by
  refine KMi.ofI (own := RX0) (by decide +kernel) rfl (fun _ => Nat.le_of_ble_eq_true rfl) ?_
  intro p l e s m args below meth c D h ad d A ls Q E w ret hl
  have hx := E.1
  have hb := E.2.1
  have hl : lv_has ls 4 [(0, .ref h), (1, .int (nI (t))), (2, .int (nI (a))), (3, .int (nI (b)))] := hl
  refine lv_iload_n hx hb dX0_check_0 rfl (lv_at hl 1 rfl) ?_
  refine lv_if_lt (tgt := 24) hx hb dX0_check_1 (by decide) (fun hn => absurd hn (nI_pos (by omega))) (fun _ => ?_)
  refine lv_iload_n hx hb dX0_check_4 rfl (lv_at hl 1 rfl) ?_
  refine lv_iconst (v := (nI (3))) hx hb dX0_check_5 (by decide) ?_
  refine lv_icmp_gt (tgt := 24) hx hb dX0_check_6 (by decide) (fun hn => absurd hn (nI_nlt (by omega) (by omega))) (fun _ => ?_)
  refine lv_iload_n hx hb dX0_check_9 rfl (lv_at hl 2 rfl) ?_
  refine lv_if_lt (tgt := 24) hx hb dX0_check_10 (by decide) (fun hn => absurd hn (nI_pos (by omega))) (fun _ => ?_)
  refine lv_iload_n hx hb dX0_check_13 rfl (lv_at hl 3 rfl) ?_
  refine lv_bipush (v := (nI (31))) hx hb dX0_check_14 (by decide) ?_
  refine lv_icmp_gt (tgt := 24) hx hb dX0_check_16 (by decide) (fun hn => absurd hn (nI_nlt (by omega) (by omega))) (fun _ => ?_)
  refine lv_iload_n hx hb dX0_check_19 rfl (lv_at hl 2 rfl) ?_
  refine lv_iload_n hx hb dX0_check_20 rfl (lv_at hl 3 rfl) ?_
  refine lv_icmp_le (tgt := 26) hx hb dX0_check_21 (by decide) (fun _ => ?_) (fun hn => absurd (nI_le (by omega) (by omega)) hn)
  refine lv_aload_n hx hb dX0_check_26 rfl (lv_at hl 0 rfl) ?_
  refine x_get (v := .ref (ad 9)) E w 9 (by decide) q39 rfl dX0_check_27 ?_
  refine lv_iload_n hx hb dX0_check_30 rfl (lv_at hl 1 rfl) ?_
  refine g_zald (f := σ 9) E w 8 7 rfl rfl (by omega) (by decide) dX0_check_31 ?_
  refine lv_if_eq (tgt := 39) hx hb dX0_check_32 (by decide) (fun c1 => ?_) (fun c1 => ?_)
  · refine lv_bipush (v := (-3)) hx hb dX0_check_39 (by decide) ?_
    exact ret _ _ _ _ _ _ (⟨fun _ => rfl, fun q => absurd c1 q, rfl⟩) w dX0_check_41
  · refine lv_iconst (v := (nI (0))) hx hb dX0_check_35 (by decide) ?_
    refine lv_goto (tgt := 41) hx hb dX0_check_36 (by decide) ?_
    exact ret _ _ _ _ _ _ (⟨fun q => absurd q c1, fun _ => rfl, rfl⟩) w dX0_check_41
set_option maxHeartbeats 4000000 in
set_option maxRecDepth 100000 in
theorem x_placeOf (σ : ST) (t k v : Nat) (ht : t < 4) (hw : σ 13 t = nI v) (hw6 : v ≤ 6) : KMi WX tX yX0_placeOf cX0_placeOf 4 (some .int) 0 [.int (nI (t)), .int (nI (k))] σ (fun r σ' => σ' = σ ∧ ((∃ j, j < v ∧ r = nI (6 * t + j) ∧ σ 14 (6 * t + j) = nI k) ∨ (r = -1 ∧ ∀ j, j < v → ¬ σ 14 (6 * t + j) = nI k))) := by
  refine KMi.ofI (own := RX0) (by decide +kernel) rfl (fun _ => Nat.le_of_ble_eq_true rfl) ?_
  intro p l e s m args below meth c D h ad d A ls Q E w ret hl
  have hx := E.1
  have hb := E.2.1
  have hl : lv_has ls 4 [(0, .ref h), (1, .int (nI (t))), (2, .int (nI (k)))] := hl
  refine lv_bipush (v := (nI (6))) hx hb dX0_placeOf_0 (by decide) ?_
  refine lv_iload_n hx hb dX0_placeOf_2 rfl (lv_at hl 1 rfl) ?_
  refine n_imul hx hb dX0_placeOf_3 ?_
  refine lv_istore_n (lv' := [(3, .int (nI (6 * t))), (0, .ref h), (1, .int (nI (t))), (2, .int (nI (k)))]) hx hb dX0_placeOf_4 rfl hl (by decide) rfl (fun ls hl => ?_)
  have loop : ∀ (u j : Nat), j + u = v → (∀ q, q < j → ¬ σ 14 (6 * t + q) = nI k) → ∀ ls : Array Slot, lv_has ls 4 [(3, .int (nI (6 * t + j))), (0, .ref h), (1, .int (nI (t))), (2, .int (nI (k)))] → W p l e (rm 0) s m args below meth c s.heap [] 0 0 Q (F0 m 5 ls []) := by
    intro u
    induction u with
    | zero =>
      intro j hj hno ls hl
      refine lv_iload_n hx hb dX0_placeOf_5 rfl (lv_at hl 0 rfl) ?_
      refine lv_bipush (v := (nI (6))) hx hb dX0_placeOf_6 (by decide) ?_
      refine lv_iload_n hx hb dX0_placeOf_8 rfl (lv_at hl 2 rfl) ?_
      refine n_imul hx hb dX0_placeOf_9 ?_
      refine lv_aload_n hx hb dX0_placeOf_10 rfl (lv_at hl 1 rfl) ?_
      refine x_get (v := .ref (ad 13)) E w 13 (by decide) q43 rfl dX0_placeOf_11 ?_
      refine lv_iload_n hx hb dX0_placeOf_14 rfl (lv_at hl 2 rfl) ?_
      refine g_bald (f := σ 13) E w 12 11 rfl rfl (by omega) (by decide) dX0_placeOf_15 ?_
      refine g_eq (y := (nI (v))) (hw) ?_
      refine n_iadd hx hb dX0_placeOf_16 ?_
      refine lv_icmp_ge (tgt := 38) hx hb dX0_placeOf_17 (by decide) (fun _ => ?_) (fun hn => absurd (nI_le (by omega) (by omega)) hn)
      refine lv_iconst (v := (-1)) hx hb dX0_placeOf_38 (by decide) ?_
      exact ret _ _ _ _ _ _ (⟨rfl, Or.inr ⟨rfl, fun q hq => hno q (by omega)⟩⟩) w dX0_placeOf_39
    | succ u ih =>
      intro j hj hno ls hl
      refine lv_iload_n hx hb dX0_placeOf_5 rfl (lv_at hl 0 rfl) ?_
      refine lv_bipush (v := (nI (6))) hx hb dX0_placeOf_6 (by decide) ?_
      refine lv_iload_n hx hb dX0_placeOf_8 rfl (lv_at hl 2 rfl) ?_
      refine n_imul hx hb dX0_placeOf_9 ?_
      refine lv_aload_n hx hb dX0_placeOf_10 rfl (lv_at hl 1 rfl) ?_
      refine x_get (v := .ref (ad 13)) E w 13 (by decide) q43 rfl dX0_placeOf_11 ?_
      refine lv_iload_n hx hb dX0_placeOf_14 rfl (lv_at hl 2 rfl) ?_
      refine g_bald (f := σ 13) E w 12 11 rfl rfl (by omega) (by decide) dX0_placeOf_15 ?_
      refine g_eq (y := (nI (v))) (hw) ?_
      refine n_iadd hx hb dX0_placeOf_16 ?_
      refine lv_icmp_ge (tgt := 38) hx hb dX0_placeOf_17 (by decide) (fun hn => absurd hn (nI_ge (by omega) (by omega))) (fun _ => ?_)
      refine lv_aload_n hx hb dX0_placeOf_20 rfl (lv_at hl 1 rfl) ?_
      refine x_get (v := .ref (ad 14)) E w 14 (by decide) q44 rfl dX0_placeOf_21 ?_
      refine lv_iload_n hx hb dX0_placeOf_24 rfl (lv_at hl 0 rfl) ?_
      refine g_bald (f := σ 14) E w 13 12 rfl rfl (by omega) (by decide) dX0_placeOf_25 ?_
      refine lv_iload_n hx hb dX0_placeOf_26 rfl (lv_at hl 3 rfl) ?_
      refine lv_icmp_ne (tgt := 32) hx hb dX0_placeOf_27 (by decide) (fun c1 => ?_) (fun c1 => ?_)
      · refine lv_iinc (v := (nI (6 * t + (j + 1)))) (lv' := [(3, .int (nI (6 * t + (j + 1)))), (0, .ref h), (1, .int (nI (t))), (2, .int (nI (k)))]) hx hb dX0_placeOf_32 hl (k := 0) rfl (nI_1 (6 * t + j)) (by decide) rfl (fun ls hl => ?_)
        refine lv_goto (tgt := 5) hx hb dX0_placeOf_35 (by decide) ?_
        exact ih (j + 1) (by omega) (lt_s hno c1) ls hl
      · refine lv_iload_n hx hb dX0_placeOf_30 rfl (lv_at hl 0 rfl) ?_
        exact ret _ _ _ _ _ _ (⟨rfl, Or.inl ⟨j, by omega, rfl, c1⟩⟩) w dX0_placeOf_31
  exact loop v 0 (by omega) lt_0 ls (lv_sub hl [0, 1, 2, 3] rfl)
set_option maxHeartbeats 4000000 in
set_option maxRecDepth 100000 in
theorem x_leafOf (σ : ST) (x : Int32) (k N : Nat) (hN : N ≤ 512) (hk : k < 32) (hT : TV (σ 0) (σ 3) N 5 x) : KMi WX tX yX0_leafOf cX0_leafOf 5 (some .int) 0 [.int (x), .int (nI (k))] σ (fun r σ' => r = lf (σ 0) 5 x k ∧ σ' = σ) := by
  refine KMi.ofI (own := RX0) (by decide +kernel) rfl (fun _ => Nat.le_of_ble_eq_true rfl) ?_
  intro p l e s m args below meth c D h ad d A ls Q E w ret hl
  have hx := E.1
  have hb := E.2.1
  have hl : lv_has ls 5 [(0, .ref h), (1, .int (x)), (2, .int (nI (k)))] := hl
  refine lv_iload_n hx hb dX0_leafOf_0 rfl (lv_at hl 1 rfl) ?_
  refine lv_istore_n (lv' := [(3, .int (x)), (0, .ref h), (1, .int (x)), (2, .int (nI (k)))]) hx hb dX0_leafOf_1 rfl hl (by decide) rfl (fun ls hl => ?_)
  refine lv_iconst (v := (nI (4))) hx hb dX0_leafOf_2 (by decide) ?_
  refine lv_istore (lv' := [(4, .int (nI (4))), (3, .int (x)), (0, .ref h), (1, .int (x)), (2, .int (nI (k)))]) hx hb dX0_leafOf_3 hl (by decide) rfl (fun ls hl => ?_)
  have loop : ∀ (u : Nat) (z : Int32), u ≤ 5 → TV (σ 0) (σ 3) N u z → lf (σ 0) 5 x k = lf (σ 0) u z k → ∀ ls : Array Slot, lv_has ls 5 [(4, .int (bitv u)), (3, .int z), (0, .ref h), (1, .int (x)), (2, .int (nI (k)))] → W p l e (rm 0) s m args below meth c s.heap [] 0 0 Q (F0 m 5 ls []) := by
    intro u
    induction u with
    | zero =>
      intro z hu hz hlf ls hl
      have hl : lv_has ls 5 [(4, .int (-1)), (3, .int z), (0, .ref h), (1, .int (x)), (2, .int (nI (k)))] := hl
      refine lv_iload hx hb dX0_leafOf_5 (lv_at hl 0 rfl) ?_
      refine lv_if_lt (tgt := 36) hx hb dX0_leafOf_7 (by decide) (fun _ => ?_) (fun hn => absurd (by decide) hn)
      refine lv_iload_n hx hb dX0_leafOf_36 rfl (lv_at hl 1 rfl) ?_
      exact ret _ _ _ _ _ _ (⟨hlf.symm, rfl⟩) w dX0_leafOf_37
    | succ u ih =>
      intro z hu hz hlf ls hl
      have hl : lv_has ls 5 [(4, .int (nI (u))), (3, .int z), (0, .ref h), (1, .int (x)), (2, .int (nI (k)))] := hl
      rcases hz.cs with e1 | ⟨q, hq, e1⟩
      · refine lv_iload hx hb dX0_leafOf_5 (lv_at hl 0 rfl) ?_
        refine lv_if_lt (tgt := 36) hx hb dX0_leafOf_7 (by decide) (fun hn => absurd hn (nI_pos (by omega))) (fun _ => ?_)
        refine lv_iload_n hx hb dX0_leafOf_10 rfl (lv_at hl 1 rfl) ?_
        refine lv_if_lt (tgt := 36) hx hb dX0_leafOf_11 (by decide) (fun _ => ?_) (fun hn => absurd (by rw [e1]; decide) hn)
        refine lv_iload_n hx hb dX0_leafOf_36 rfl (lv_at hl 1 rfl) ?_
        exact ret _ _ _ _ _ _ (⟨by rw [hlf, e1, lf_m1], rfl⟩) w dX0_leafOf_37
      · subst e1
        have hbt : k / 2 ^ u % 2 < 2 := Nat.mod_lt _ (by decide)
        obtain ⟨hz1, -, -⟩ := hz.kid hN (by omega) hbt
        refine lv_iload hx hb dX0_leafOf_5 (lv_at hl 0 rfl) ?_
        refine lv_if_lt (tgt := 36) hx hb dX0_leafOf_7 (by decide) (fun hn => absurd hn (nI_pos (by omega))) (fun _ => ?_)
        refine lv_iload_n hx hb dX0_leafOf_10 rfl (lv_at hl 1 rfl) ?_
        refine lv_if_lt (tgt := 36) hx hb dX0_leafOf_11 (by decide) (fun hn => absurd hn (nI_pos (by omega))) (fun _ => ?_)
        refine lv_aload_n hx hb dX0_leafOf_14 rfl (lv_at hl 2 rfl) ?_
        refine x_get (v := .ref (ad 0)) E w 0 (by decide) q30 rfl dX0_leafOf_15 ?_
        refine lv_iconst (v := (nI (2))) hx hb dX0_leafOf_18 (by decide) ?_
        refine lv_iload_n hx hb dX0_leafOf_19 rfl (lv_at hl 1 rfl) ?_
        refine n_imul hx hb dX0_leafOf_20 ?_
        refine lv_iload_n hx hb dX0_leafOf_21 rfl (lv_at hl 4 rfl) ?_
        refine lv_iload hx hb dX0_leafOf_22 (lv_at hl 0 rfl) ?_
        refine lv_ishr hx hb dX0_leafOf_24 ?_
        refine lv_iconst (v := (nI (1))) hx hb dX0_leafOf_25 (by decide) ?_
        refine lv_iand hx hb dX0_leafOf_26 ?_
        refine g_eq (y := (nI (k / 2 ^ u % 2))) (kbit hk (by omega)) ?_
        refine n_iadd hx hb dX0_leafOf_27 ?_
        refine g_sald (f := σ 0) E w 1 0 rfl rfl (by omega) (by decide) dX0_leafOf_28 ?_
        refine lv_istore_n (lv' := [(3, .int (σ 0 ((2 * q) + (k / 2 ^ u % 2)))), (4, .int (nI (u))), (0, .ref h), (1, .int (x)), (2, .int (nI (k)))]) hx hb dX0_leafOf_29 rfl hl (by decide) rfl (fun ls hl => ?_)
        refine lv_iinc (v := (bitv u)) (lv' := [(4, .int (bitv u)), (3, .int (σ 0 ((2 * q) + (k / 2 ^ u % 2)))), (0, .ref h), (1, .int (x)), (2, .int (nI (k)))]) hx hb dX0_leafOf_30 hl (k := 1) rfl (bitv_dec u) (by decide) rfl (fun ls hl => ?_)
        refine lv_goto (tgt := 5) hx hb dX0_leafOf_33 (by decide) ?_
        exact ih _ (by omega) hz1 (by rw [hlf, lf_nd (by omega)]) ls hl
  exact loop 5 x (Nat.le_refl 5) hT rfl ls hl
set_option maxHeartbeats 4000000 in
set_option maxRecDepth 100000 in
theorem x_inView (σ : ST) (t k v N : Nat) (f : Nat → Bool) (g : Nat → Int32) (ht : t < 4) (hk : k < 32) (hw : σ 13 t = nI v) (hw6 : v ≤ 6) (hN : N ≤ 512) (hT : TV (σ 0) (σ 3) N 5 (σ 11 t)) (hV : VW σ t v f g) : KMi WX tX yX0_inView cX0_inView 5 (some .boolean) 1 [.int (nI (t)), .int (nI (k))] σ (fun r σ' => r = bI (f k) ∧ σ' = σ) := by
  refine KMi.ofZ (own := RX0) (by decide +kernel) rfl (fun _ => Nat.le_of_ble_eq_true rfl) ?_
  intro p l e s m args below meth c D h ad d A ls Q E w ret hl
  have hx := E.1
  have hb := E.2.1
  have hl : lv_has ls 5 [(0, .ref h), (1, .int (nI (t))), (2, .int (nI (k)))] := hl
  refine lv_aload_n hx hb dX0_inView_0 rfl (lv_at hl 0 rfl) ?_
  refine lv_iload_n hx hb dX0_inView_1 rfl (lv_at hl 1 rfl) ?_
  refine lv_iload_n hx hb dX0_inView_2 rfl (lv_at hl 2 rfl) ?_
  refine k_calli (ci := 0) (C := RX0) (T := TX0) (N := 21) (x_placeOf σ t k v ht hw hw6) E w q114 q116 qs2 q20 q117 rfl rfl 2 rfl (by decide +kernel) ⟨Nat.le_of_ble_eq_true rfl, Nat.le_of_ble_eq_true rfl⟩ hl.1 rfl (Nat.le_of_ble_eq_true rfl) dX0_inView_3 ⟨Nat.zero_le _, Nat.zero_le _⟩ (fun r_3 σ_3 H locs hp_3 w => ?_)
  obtain ⟨e1, hp_3⟩ := hp_3
  rw [e1] at w
  rcases hp_3 with ⟨j, hj, er, hj2⟩ | ⟨er, hno⟩
  · refine g_eq (y := (nI (6 * t + j))) (er) ?_
    refine lv_istore_n (lv' := [(3, .int (nI (6 * t + j))), (0, .ref h), (1, .int (nI (t))), (2, .int (nI (k)))]) hx hb dX0_inView_6 rfl hl (by decide) rfl (fun ls hl => ?_)
    refine lv_iload_n hx hb dX0_inView_7 rfl (lv_at hl 0 rfl) ?_
    refine lv_if_lt (tgt := 18) hx hb dX0_inView_8 (by decide) (fun hn => absurd hn (nI_pos (by omega))) (fun _ => ?_)
    refine lv_aload_n hx hb dX0_inView_11 rfl (lv_at hl 1 rfl) ?_
    refine x_get (v := .ref (ad 16)) E w 16 (by decide) q46 rfl dX0_inView_12 ?_
    refine lv_iload_n hx hb dX0_inView_15 rfl (lv_at hl 0 rfl) ?_
    refine g_zald (f := σ 16) E w 15 14 rfl rfl (by omega) (by decide) dX0_inView_16 ?_
    exact ret _ _ _ _ _ _ (by rw [((hV k hk).1 j hj hj2).1]; exact bI_nar _) (⟨((hV k hk).1 j hj hj2).1, rfl⟩) w dX0_inView_17
  · refine g_eq (y := (-1)) (er) ?_
    obtain ⟨hf, -⟩ := (hV k hk).2 hno
    refine lv_istore_n (lv' := [(3, .int (-1)), (0, .ref h), (1, .int (nI (t))), (2, .int (nI (k)))]) hx hb dX0_inView_6 rfl hl (by decide) rfl (fun ls hl => ?_)
    refine lv_iload_n hx hb dX0_inView_7 rfl (lv_at hl 0 rfl) ?_
    refine lv_if_lt (tgt := 18) hx hb dX0_inView_8 (by decide) (fun _ => ?_) (fun hn => absurd (by decide) hn)
    refine lv_aload_n hx hb dX0_inView_18 rfl (lv_at hl 1 rfl) ?_
    refine lv_aload_n hx hb dX0_inView_19 rfl (lv_at hl 1 rfl) ?_
    refine x_get (v := .ref (ad 11)) E w 11 (by decide) q41 rfl dX0_inView_20 ?_
    refine lv_iload_n hx hb dX0_inView_23 rfl (lv_at hl 2 rfl) ?_
    refine g_sald (f := σ 11) E w 10 9 rfl rfl (by omega) (by decide) dX0_inView_24 ?_
    refine lv_iload_n hx hb dX0_inView_25 rfl (lv_at hl 3 rfl) ?_
    refine k_calli (ci := 0) (C := RX0) (T := TX0) (N := 21) (x_leafOf σ (σ 11 t) k N hN hk hT) E w q130 q132 qs4 q20 q133 rfl rfl 2 rfl (by decide +kernel) ⟨Nat.le_of_ble_eq_true rfl, Nat.le_of_ble_eq_true rfl⟩ hl.1 rfl (Nat.le_of_ble_eq_true rfl) dX0_inView_26 ⟨Nat.zero_le _, Nat.zero_le _⟩ (fun r_26 σ_26 H locs hp_26 w => ?_)
    obtain ⟨er2, e2⟩ := hp_26
    rw [e2] at w
    rcases lf_ok hN 5 _ hT k with g1 | ⟨q, hq, g1, -⟩
    · refine g_eq (y := (-1)) (er2.trans g1) ?_
      refine lv_istore (lv' := [(4, .int (-1)), (3, .int (-1)), (0, .ref h), (1, .int (nI (t))), (2, .int (nI (k)))]) hx hb dX0_inView_29 hl (by decide) rfl (fun ls hl => ?_)
      refine lv_iload hx hb dX0_inView_31 (lv_at hl 0 rfl) ?_
      refine lv_if_lt (tgt := 50) hx hb dX0_inView_33 (by decide) (fun _ => ?_) (fun hn => absurd (by decide) hn)
      refine lv_iconst (v := (nI (0))) hx hb dX0_inView_50 (by decide) ?_
      exact ret _ _ _ _ _ _ (rfl) (⟨by rw [← hf, khB_m1 g1]; rfl, rfl⟩) w dX0_inView_51
    · refine g_eq (y := (nI (q))) (er2.trans g1) ?_
      refine lv_istore (lv' := [(4, .int (nI (q))), (3, .int (-1)), (0, .ref h), (1, .int (nI (t))), (2, .int (nI (k)))]) hx hb dX0_inView_29 hl (by decide) rfl (fun ls hl => ?_)
      refine lv_iload hx hb dX0_inView_31 (lv_at hl 0 rfl) ?_
      refine lv_if_lt (tgt := 50) hx hb dX0_inView_33 (by decide) (fun hn => absurd hn (nI_pos (by omega))) (fun _ => ?_)
      refine lv_aload_n hx hb dX0_inView_36 rfl (lv_at hl 2 rfl) ?_
      refine x_get (v := .ref (ad 2)) E w 2 (by decide) q32 rfl dX0_inView_37 ?_
      refine lv_iload hx hb dX0_inView_40 (lv_at hl 0 rfl) ?_
      refine g_zald (f := σ 2) E w 3 2 rfl rfl (by omega) (by decide) dX0_inView_42 ?_
      refine lv_if_eq (tgt := 50) hx hb dX0_inView_43 (by decide) (fun c1 => ?_) (fun c1 => ?_)
      · refine lv_iconst (v := (nI (0))) hx hb dX0_inView_50 (by decide) ?_
        exact ret _ _ _ _ _ _ (rfl) (⟨by rw [← hf, khB_0 (by omega) g1 c1]; rfl, rfl⟩) w dX0_inView_51
      · refine lv_iconst (v := (nI (1))) hx hb dX0_inView_46 (by decide) ?_
        refine lv_goto (tgt := 51) hx hb dX0_inView_47 (by decide) ?_
        exact ret _ _ _ _ _ _ (rfl) (⟨by rw [← hf, khB_1 (by omega) g1 c1]; rfl, rfl⟩) w dX0_inView_51
set_option maxHeartbeats 4000000 in
set_option maxRecDepth 100000 in
theorem x_peek_bad (σ : ST) (t k : Int32) (hbad : t < 0 ∨ nI 3 < t ∨ k < 0 ∨ nI 31 < k ∨ k < k) : KMi WX tX yX0_peek cX0_peek 5 (some .int) 2 [.int (t), .int (k)] σ (fun r σ' => r = nI 0 ∧ σ' = σ) := by
  refine KMi.ofI (own := RX0) (by decide +kernel) rfl (fun _ => Nat.le_of_ble_eq_true rfl) ?_
  intro p l e s m args below meth c D h ad d A ls Q E w ret hl
  have hx := E.1
  have hb := E.2.1
  have hl : lv_has ls 5 [(0, .ref h), (1, .int (t)), (2, .int (k))] := hl
  refine lv_aload_n hx hb dX0_peek_0 rfl (lv_at hl 0 rfl) ?_
  refine lv_iload_n hx hb dX0_peek_1 rfl (lv_at hl 1 rfl) ?_
  refine lv_iload_n hx hb dX0_peek_2 rfl (lv_at hl 2 rfl) ?_
  refine lv_iload_n hx hb dX0_peek_3 rfl (lv_at hl 2 rfl) ?_
  refine k_calli (ci := 0) (C := RX0) (T := TX0) (N := 21) (x_check_bad σ t k k hbad) E w q110 q112 qs1 q20 q113 rfl rfl 3 rfl (by decide +kernel) ⟨Nat.le_of_ble_eq_true rfl, Nat.le_of_ble_eq_true rfl⟩ hl.1 rfl (Nat.le_of_ble_eq_true rfl) dX0_peek_4 ⟨Nat.zero_le _, Nat.zero_le _⟩ (fun r_4 σ_4 H locs hp_4 w => ?_)
  obtain ⟨e1, e2⟩ := hp_4
  rw [e2] at w
  refine g_eq (y := (-1)) (e1) ?_
  refine lv_if_eq (tgt := 12) hx hb dX0_peek_7 (by decide) (fun hn => absurd hn (by decide)) (fun _ => ?_)
  refine lv_iconst (v := (nI (0))) hx hb dX0_peek_10 (by decide) ?_
  exact ret _ _ _ _ _ _ (⟨rfl, rfl⟩) w dX0_peek_11
set_option maxHeartbeats 4000000 in
set_option maxRecDepth 100000 in
theorem x_peek_cl (σ : ST) (t k : Nat) (ht : t < 4) (hk : k < 32) (ho : σ 9 t = 0) : KMi WX tX yX0_peek cX0_peek 5 (some .int) 2 [.int (nI (t)), .int (nI (k))] σ (fun r σ' => r = nI 0 ∧ σ' = σ) := by
  refine KMi.ofI (own := RX0) (by decide +kernel) rfl (fun _ => Nat.le_of_ble_eq_true rfl) ?_
  intro p l e s m args below meth c D h ad d A ls Q E w ret hl
  have hx := E.1
  have hb := E.2.1
  have hl : lv_has ls 5 [(0, .ref h), (1, .int (nI (t))), (2, .int (nI (k)))] := hl
  refine lv_aload_n hx hb dX0_peek_0 rfl (lv_at hl 0 rfl) ?_
  refine lv_iload_n hx hb dX0_peek_1 rfl (lv_at hl 1 rfl) ?_
  refine lv_iload_n hx hb dX0_peek_2 rfl (lv_at hl 2 rfl) ?_
  refine lv_iload_n hx hb dX0_peek_3 rfl (lv_at hl 2 rfl) ?_
  refine k_calli (ci := 0) (C := RX0) (T := TX0) (N := 21) (x_check_ok σ t k k ht (Nat.le_refl _) hk) E w q110 q112 qs1 q20 q113 rfl rfl 3 rfl (by decide +kernel) ⟨Nat.le_of_ble_eq_true rfl, Nat.le_of_ble_eq_true rfl⟩ hl.1 rfl (Nat.le_of_ble_eq_true rfl) dX0_peek_4 ⟨Nat.zero_le _, Nat.zero_le _⟩ (fun r_4 σ_4 H locs hp_4 w => ?_)
  obtain ⟨z1, z2, e2⟩ := hp_4
  rw [e2] at w
  have e1 := z1 ho
  refine g_eq (y := (-3)) (e1) ?_
  refine lv_if_eq (tgt := 12) hx hb dX0_peek_7 (by decide) (fun hn => absurd hn (by decide)) (fun _ => ?_)
  refine lv_iconst (v := (nI (0))) hx hb dX0_peek_10 (by decide) ?_
  exact ret _ _ _ _ _ _ (⟨rfl, rfl⟩) w dX0_peek_11
set_option maxHeartbeats 4000000 in
set_option maxRecDepth 100000 in
theorem x_peek (σ : ST) (t k v N : Nat) (f : Nat → Bool) (g : Nat → Int32) (ht : t < 4) (hk : k < 32) (hw : σ 13 t = nI v) (hw6 : v ≤ 6) (hN : N ≤ 512) (hT : TV (σ 0) (σ 3) N 5 (σ 11 t)) (hV : VW σ t v f g) (ho : ¬ σ 9 t = 0) : KMi WX tX yX0_peek cX0_peek 5 (some .int) 2 [.int (nI (t)), .int (nI (k))] σ (fun r σ' => r = (if f k then g k else 0) ∧ σ' = σ) := by
  refine KMi.ofI (own := RX0) (by decide +kernel) rfl (fun _ => Nat.le_of_ble_eq_true rfl) ?_
  intro p l e s m args below meth c D h ad d A ls Q E w ret hl
  have hx := E.1
  have hb := E.2.1
  have hl : lv_has ls 5 [(0, .ref h), (1, .int (nI (t))), (2, .int (nI (k)))] := hl
  refine lv_aload_n hx hb dX0_peek_0 rfl (lv_at hl 0 rfl) ?_
  refine lv_iload_n hx hb dX0_peek_1 rfl (lv_at hl 1 rfl) ?_
  refine lv_iload_n hx hb dX0_peek_2 rfl (lv_at hl 2 rfl) ?_
  refine lv_iload_n hx hb dX0_peek_3 rfl (lv_at hl 2 rfl) ?_
  refine k_calli (ci := 0) (C := RX0) (T := TX0) (N := 21) (x_check_ok σ t k k ht (Nat.le_refl _) hk) E w q110 q112 qs1 q20 q113 rfl rfl 3 rfl (by decide +kernel) ⟨Nat.le_of_ble_eq_true rfl, Nat.le_of_ble_eq_true rfl⟩ hl.1 rfl (Nat.le_of_ble_eq_true rfl) dX0_peek_4 ⟨Nat.zero_le _, Nat.zero_le _⟩ (fun r_4 σ_4 H locs hp_4 w => ?_)
  obtain ⟨z1, z2, e2⟩ := hp_4
  rw [e2] at w
  have e1 := z2 ho
  refine g_eq (y := (nI (0))) (e1) ?_
  refine lv_if_eq (tgt := 12) hx hb dX0_peek_7 (by decide) (fun _ => ?_) (fun hn => absurd (nI_0) hn)
  refine lv_aload_n hx hb dX0_peek_12 rfl (lv_at hl 0 rfl) ?_
  refine lv_iload_n hx hb dX0_peek_13 rfl (lv_at hl 1 rfl) ?_
  refine lv_iload_n hx hb dX0_peek_14 rfl (lv_at hl 2 rfl) ?_
  refine k_calli (ci := 0) (C := RX0) (T := TX0) (N := 21) (x_placeOf σ t k v ht hw hw6) E w q114 q116 qs2 q20 q117 rfl rfl 2 rfl (by decide +kernel) ⟨Nat.le_of_ble_eq_true rfl, Nat.le_of_ble_eq_true rfl⟩ hl.1 rfl (Nat.le_of_ble_eq_true rfl) dX0_peek_15 ⟨Nat.zero_le _, Nat.zero_le _⟩ (fun r_15 σ_15 H locs hp_15 w => ?_)
  obtain ⟨e1, hp_15⟩ := hp_15
  rw [e1] at w
  rcases hp_15 with ⟨j, hj, er, hj2⟩ | ⟨er, hno⟩
  · refine g_eq (y := (nI (6 * t + j))) (er) ?_
    refine lv_istore_n (lv' := [(3, .int (nI (6 * t + j))), (0, .ref h), (1, .int (nI (t))), (2, .int (nI (k)))]) hx hb dX0_peek_18 rfl hl (by decide) rfl (fun ls hl => ?_)
    refine lv_iload_n hx hb dX0_peek_19 rfl (lv_at hl 0 rfl) ?_
    refine lv_if_lt (tgt := 30) hx hb dX0_peek_20 (by decide) (fun hn => absurd hn (nI_pos (by omega))) (fun _ => ?_)
    refine lv_aload_n hx hb dX0_peek_23 rfl (lv_at hl 1 rfl) ?_
    refine x_get (v := .ref (ad 15)) E w 15 (by decide) q45 rfl dX0_peek_24 ?_
    refine lv_iload_n hx hb dX0_peek_27 rfl (lv_at hl 0 rfl) ?_
    refine g_iald (f := σ 15) E w 14 13 rfl rfl (by omega) (by decide) dX0_peek_28 ?_
    exact ret _ _ _ _ _ _ (⟨((hV k hk).1 j hj hj2).2, rfl⟩) w dX0_peek_29
  · refine g_eq (y := (-1)) (er) ?_
    obtain ⟨hf, hg⟩ := (hV k hk).2 hno
    refine lv_istore_n (lv' := [(3, .int (-1)), (0, .ref h), (1, .int (nI (t))), (2, .int (nI (k)))]) hx hb dX0_peek_18 rfl hl (by decide) rfl (fun ls hl => ?_)
    refine lv_iload_n hx hb dX0_peek_19 rfl (lv_at hl 0 rfl) ?_
    refine lv_if_lt (tgt := 30) hx hb dX0_peek_20 (by decide) (fun _ => ?_) (fun hn => absurd (by decide) hn)
    refine lv_aload_n hx hb dX0_peek_30 rfl (lv_at hl 1 rfl) ?_
    refine lv_aload_n hx hb dX0_peek_31 rfl (lv_at hl 1 rfl) ?_
    refine x_get (v := .ref (ad 11)) E w 11 (by decide) q41 rfl dX0_peek_32 ?_
    refine lv_iload_n hx hb dX0_peek_35 rfl (lv_at hl 2 rfl) ?_
    refine g_sald (f := σ 11) E w 10 9 rfl rfl (by omega) (by decide) dX0_peek_36 ?_
    refine lv_iload_n hx hb dX0_peek_37 rfl (lv_at hl 3 rfl) ?_
    refine k_calli (ci := 0) (C := RX0) (T := TX0) (N := 21) (x_leafOf σ (σ 11 t) k N hN hk hT) E w q130 q132 qs4 q20 q133 rfl rfl 2 rfl (by decide +kernel) ⟨Nat.le_of_ble_eq_true rfl, Nat.le_of_ble_eq_true rfl⟩ hl.1 rfl (Nat.le_of_ble_eq_true rfl) dX0_peek_38 ⟨Nat.zero_le _, Nat.zero_le _⟩ (fun r_38 σ_38 H locs hp_38 w => ?_)
    obtain ⟨er2, e2⟩ := hp_38
    rw [e2] at w
    rcases lf_ok hN 5 _ hT k with g1 | ⟨q, hq, g1, -⟩
    · refine g_eq (y := (-1)) (er2.trans g1) ?_
      refine lv_istore (lv' := [(4, .int (-1)), (3, .int (-1)), (0, .ref h), (1, .int (nI (t))), (2, .int (nI (k)))]) hx hb dX0_peek_41 hl (by decide) rfl (fun ls hl => ?_)
      refine lv_iload hx hb dX0_peek_43 (lv_at hl 0 rfl) ?_
      refine lv_if_lt (tgt := 68) hx hb dX0_peek_45 (by decide) (fun _ => ?_) (fun hn => absurd (by decide) hn)
      refine lv_iconst (v := (nI (0))) hx hb dX0_peek_68 (by decide) ?_
      exact ret _ _ _ _ _ _ (⟨by rw [← hf, khB_m1 g1]; rfl, rfl⟩) w dX0_peek_69
    · refine g_eq (y := (nI (q))) (er2.trans g1) ?_
      refine lv_istore (lv' := [(4, .int (nI (q))), (3, .int (-1)), (0, .ref h), (1, .int (nI (t))), (2, .int (nI (k)))]) hx hb dX0_peek_41 hl (by decide) rfl (fun ls hl => ?_)
      refine lv_iload hx hb dX0_peek_43 (lv_at hl 0 rfl) ?_
      refine lv_if_lt (tgt := 68) hx hb dX0_peek_45 (by decide) (fun hn => absurd hn (nI_pos (by omega))) (fun _ => ?_)
      refine lv_aload_n hx hb dX0_peek_48 rfl (lv_at hl 2 rfl) ?_
      refine x_get (v := .ref (ad 2)) E w 2 (by decide) q32 rfl dX0_peek_49 ?_
      refine lv_iload hx hb dX0_peek_52 (lv_at hl 0 rfl) ?_
      refine g_zald (f := σ 2) E w 3 2 rfl rfl (by omega) (by decide) dX0_peek_54 ?_
      refine lv_if_eq (tgt := 68) hx hb dX0_peek_55 (by decide) (fun c1 => ?_) (fun c1 => ?_)
      · refine lv_iconst (v := (nI (0))) hx hb dX0_peek_68 (by decide) ?_
        exact ret _ _ _ _ _ _ (⟨by rw [← hf, khB_0 (by omega) g1 c1]; rfl, rfl⟩) w dX0_peek_69
      · have hft : f k = true := by rw [← hf, khB_1 (by omega) g1 c1]
        refine lv_aload_n hx hb dX0_peek_58 rfl (lv_at hl 2 rfl) ?_
        refine x_get (v := .ref (ad 1)) E w 1 (by decide) q31 rfl dX0_peek_59 ?_
        refine lv_iload hx hb dX0_peek_62 (lv_at hl 0 rfl) ?_
        refine g_iald (f := σ 1) E w 2 1 rfl rfl (by omega) (by decide) dX0_peek_64 ?_
        refine lv_goto (tgt := 69) hx hb dX0_peek_65 (by decide) ?_
        exact ret _ _ _ _ _ _ (⟨by rw [← hg hft, hft, if_pos rfl, kvB_nd (by omega) g1], rfl⟩) w dX0_peek_69
set_option maxHeartbeats 4000000 in
set_option maxRecDepth 100000 in
theorem x_put_bad (σ : ST) (t k x b : Int32) (hbad : t < 0 ∨ nI 3 < t ∨ k < 0 ∨ nI 31 < k ∨ k < k) : KMi WX tX yX0_put cX0_put 7 (some .int) 1 [.int (t), .int (k), .int (x), .int (b)] σ (fun r σ' => r = -1 ∧ σ' = σ) := by
  refine KMi.ofI (own := RX0) (by decide +kernel) rfl (fun _ => Nat.le_of_ble_eq_true rfl) ?_
  intro p l e s m args below meth c D h ad d A ls Q E w ret hl
  have hx := E.1
  have hb := E.2.1
  have hl : lv_has ls 7 [(0, .ref h), (1, .int (t)), (2, .int (k)), (3, .int (x)), (4, .int (b))] := hl
  refine lv_aload_n hx hb dX0_put_0 rfl (lv_at hl 0 rfl) ?_
  refine lv_iload_n hx hb dX0_put_1 rfl (lv_at hl 1 rfl) ?_
  refine lv_iload_n hx hb dX0_put_2 rfl (lv_at hl 2 rfl) ?_
  refine lv_iload_n hx hb dX0_put_3 rfl (lv_at hl 2 rfl) ?_
  refine k_calli (ci := 0) (C := RX0) (T := TX0) (N := 21) (x_check_bad σ t k k hbad) E w q110 q112 qs1 q20 q113 rfl rfl 3 rfl (by decide +kernel) ⟨Nat.le_of_ble_eq_true rfl, Nat.le_of_ble_eq_true rfl⟩ hl.1 rfl (Nat.le_of_ble_eq_true rfl) dX0_put_4 ⟨Nat.zero_le _, Nat.zero_le _⟩ (fun r_4 σ_4 H locs hp_4 w => ?_)
  obtain ⟨e1, e2⟩ := hp_4
  rw [e2] at w
  refine g_eq (y := (-1)) (e1) ?_
  refine lv_istore (lv' := [(5, .int (-1)), (0, .ref h), (1, .int (t)), (2, .int (k)), (3, .int (x)), (4, .int (b))]) hx hb dX0_put_7 hl (by decide) rfl (fun ls hl => ?_)
  refine lv_iload hx hb dX0_put_9 (lv_at hl 0 rfl) ?_
  refine lv_if_eq (tgt := 17) hx hb dX0_put_11 (by decide) (fun hn => absurd hn (by decide)) (fun _ => ?_)
  refine lv_iload hx hb dX0_put_14 (lv_at hl 0 rfl) ?_
  exact ret _ _ _ _ _ _ (⟨rfl, rfl⟩) w dX0_put_16
set_option maxHeartbeats 4000000 in
set_option maxRecDepth 100000 in
theorem x_put_cl (σ : ST) (t k : Nat) (x b : Int32) (ht : t < 4) (hk : k < 32) (ho : σ 9 t = 0) : KMi WX tX yX0_put cX0_put 7 (some .int) 1 [.int (nI (t)), .int (nI (k)), .int (x), .int (b)] σ (fun r σ' => r = -3 ∧ σ' = σ) := by
  refine KMi.ofI (own := RX0) (by decide +kernel) rfl (fun _ => Nat.le_of_ble_eq_true rfl) ?_
  intro p l e s m args below meth c D h ad d A ls Q E w ret hl
  have hx := E.1
  have hb := E.2.1
  have hl : lv_has ls 7 [(0, .ref h), (1, .int (nI (t))), (2, .int (nI (k))), (3, .int (x)), (4, .int (b))] := hl
  refine lv_aload_n hx hb dX0_put_0 rfl (lv_at hl 0 rfl) ?_
  refine lv_iload_n hx hb dX0_put_1 rfl (lv_at hl 1 rfl) ?_
  refine lv_iload_n hx hb dX0_put_2 rfl (lv_at hl 2 rfl) ?_
  refine lv_iload_n hx hb dX0_put_3 rfl (lv_at hl 2 rfl) ?_
  refine k_calli (ci := 0) (C := RX0) (T := TX0) (N := 21) (x_check_ok σ t k k ht (Nat.le_refl _) hk) E w q110 q112 qs1 q20 q113 rfl rfl 3 rfl (by decide +kernel) ⟨Nat.le_of_ble_eq_true rfl, Nat.le_of_ble_eq_true rfl⟩ hl.1 rfl (Nat.le_of_ble_eq_true rfl) dX0_put_4 ⟨Nat.zero_le _, Nat.zero_le _⟩ (fun r_4 σ_4 H locs hp_4 w => ?_)
  obtain ⟨z1, z2, e2⟩ := hp_4
  rw [e2] at w
  have e1 := z1 ho
  refine g_eq (y := (-3)) (e1) ?_
  refine lv_istore (lv' := [(5, .int (-3)), (0, .ref h), (1, .int (nI (t))), (2, .int (nI (k))), (3, .int (x)), (4, .int (b))]) hx hb dX0_put_7 hl (by decide) rfl (fun ls hl => ?_)
  refine lv_iload hx hb dX0_put_9 (lv_at hl 0 rfl) ?_
  refine lv_if_eq (tgt := 17) hx hb dX0_put_11 (by decide) (fun hn => absurd hn (by decide)) (fun _ => ?_)
  refine lv_iload hx hb dX0_put_14 (lv_at hl 0 rfl) ?_
  exact ret _ _ _ _ _ _ (⟨rfl, rfl⟩) w dX0_put_16
set_option maxHeartbeats 4000000 in
set_option maxRecDepth 100000 in
theorem x_putk (σ : ST) (t k v : Nat) (x : Int32) (ht : t < 4) (hk : k < 32) (hw : σ 13 t = nI v) (hw6 : v ≤ 6) (ho : ¬ σ 9 t = 0) (b : Int32) (hbn : vp_nar .boolean b = b) : KMi WX tX yX0_put cX0_put 7 (some .int) 1 [.int (nI (t)), .int (nI (k)), .int (x), .int (b)] σ (fun r σ' => (∃ j, j < v ∧ σ 14 (6 * t + j) = nI k ∧ r = nI v ∧ σ' = su (su σ 15 (6 * t + j) x) 16 (6 * t + j) b) ∨ ((∀ j, j < v → ¬ σ 14 (6 * t + j) = nI k) ∧ ((v = 6 ∧ r = -4 ∧ σ' = σ) ∨ (v < 6 ∧ r = nI (v + 1) ∧ σ' = su (su (su (su σ 13 t (nI (v + 1))) 14 (6 * t + v) (nI k)) 15 (6 * t + v) x) 16 (6 * t + v) b)))) := by
  refine KMi.ofI (own := RX0) (by decide +kernel) rfl (fun _ => Nat.le_of_ble_eq_true rfl) ?_
  intro p l e s m args below meth c D h ad d A ls Q E w ret hl
  have hx := E.1
  have hb := E.2.1
  have hl : lv_has ls 7 [(0, .ref h), (1, .int (nI (t))), (2, .int (nI (k))), (3, .int (x)), (4, .int (b))] := hl
  refine lv_aload_n hx hb dX0_put_0 rfl (lv_at hl 0 rfl) ?_
  refine lv_iload_n hx hb dX0_put_1 rfl (lv_at hl 1 rfl) ?_
  refine lv_iload_n hx hb dX0_put_2 rfl (lv_at hl 2 rfl) ?_
  refine lv_iload_n hx hb dX0_put_3 rfl (lv_at hl 2 rfl) ?_
  refine k_calli (ci := 0) (C := RX0) (T := TX0) (N := 21) (x_check_ok σ t k k ht (Nat.le_refl _) hk) E w q110 q112 qs1 q20 q113 rfl rfl 3 rfl (by decide +kernel) ⟨Nat.le_of_ble_eq_true rfl, Nat.le_of_ble_eq_true rfl⟩ hl.1 rfl (Nat.le_of_ble_eq_true rfl) dX0_put_4 ⟨Nat.zero_le _, Nat.zero_le _⟩ (fun r_4 σ_4 H locs hp_4 w => ?_)
  obtain ⟨z1, z2, e2⟩ := hp_4
  rw [e2] at w
  have e1 := z2 ho
  refine g_eq (y := (nI (0))) (e1) ?_
  refine lv_istore (lv' := [(5, .int (nI (0))), (0, .ref h), (1, .int (nI (t))), (2, .int (nI (k))), (3, .int (x)), (4, .int (b))]) hx hb dX0_put_7 hl (by decide) rfl (fun ls hl => ?_)
  refine lv_iload hx hb dX0_put_9 (lv_at hl 0 rfl) ?_
  refine lv_if_eq (tgt := 17) hx hb dX0_put_11 (by decide) (fun _ => ?_) (fun hn => absurd (nI_0) hn)
  refine lv_aload_n hx hb dX0_put_17 rfl (lv_at hl 1 rfl) ?_
  refine lv_iload_n hx hb dX0_put_18 rfl (lv_at hl 2 rfl) ?_
  refine lv_iload_n hx hb dX0_put_19 rfl (lv_at hl 3 rfl) ?_
  refine k_calli (ci := 0) (C := RX0) (T := TX0) (N := 21) (x_placeOf σ t k v ht hw hw6) E w q114 q116 qs2 q20 q117 rfl rfl 2 rfl (by decide +kernel) ⟨Nat.le_of_ble_eq_true rfl, Nat.le_of_ble_eq_true rfl⟩ hl.1 rfl (Nat.le_of_ble_eq_true rfl) dX0_put_20 ⟨Nat.zero_le _, Nat.zero_le _⟩ (fun r_20 σ_20 H locs hp_20 w => ?_)
  obtain ⟨e1, hp_20⟩ := hp_20
  rw [e1] at w
  rcases hp_20 with ⟨j, hj, er, hj2⟩ | ⟨er, hno⟩
  · refine g_eq (y := (nI (6 * t + j))) (er) ?_
    refine lv_istore (lv' := [(6, .int (nI (6 * t + j))), (5, .int (nI (0))), (0, .ref h), (1, .int (nI (t))), (2, .int (nI (k))), (3, .int (x)), (4, .int (b))]) hx hb dX0_put_23 hl (by decide) rfl (fun ls hl => ?_)
    refine lv_iload hx hb dX0_put_25 (lv_at hl 0 rfl) ?_
    refine lv_if_ge (tgt := 77) hx hb dX0_put_27 (by decide) (fun _ => ?_) (fun hn => absurd (nI_pos' (by omega)) hn)
    refine lv_aload_n hx hb dX0_put_77 rfl (lv_at hl 2 rfl) ?_
    refine x_get (v := .ref (ad 15)) E w 15 (by decide) q45 rfl dX0_put_78 ?_
    refine lv_iload hx hb dX0_put_81 (lv_at hl 0 rfl) ?_
    refine lv_iload_n hx hb dX0_put_83 rfl (lv_at hl 5 rfl) ?_
    refine g_iast (f := σ 15) (ws' := WX h ad d (su σ 15 (6 * t + j) (x))) E w 14 13 rfl rfl (by omega) (by decide) rfl dX0_put_84 (fun H locs w => ?_)
    refine lv_aload_n hx hb dX0_put_85 rfl (lv_at hl 2 rfl) ?_
    refine x_get (v := .ref (ad 16)) E w 16 (by decide) q46 rfl dX0_put_86 ?_
    refine lv_iload hx hb dX0_put_89 (lv_at hl 0 rfl) ?_
    refine lv_iload hx hb dX0_put_91 (lv_at hl 6 rfl) ?_
    refine g_zast (f := σ 16) (ws' := WX h ad d (su (su σ 15 (6 * t + j) (x)) 16 (6 * t + j) (b))) E w 15 14 rfl rfl (by omega) (by decide) (hbn) rfl dX0_put_93 (fun H locs w => ?_)
    refine lv_aload_n hx hb dX0_put_94 rfl (lv_at hl 2 rfl) ?_
    refine x_get (v := .ref (ad 13)) E w 13 (by decide) q43 rfl dX0_put_95 ?_
    refine lv_iload_n hx hb dX0_put_98 rfl (lv_at hl 3 rfl) ?_
    refine g_bald (f := σ 13) E w 12 11 rfl rfl (by omega) (by decide) dX0_put_99 ?_
    refine g_eq (y := (nI (v))) (hw) ?_
    exact ret _ _ _ _ _ _ (Or.inl ⟨j, hj, hj2, rfl, rfl⟩) w dX0_put_100
  · refine g_eq (y := (-1)) (er) ?_
    refine lv_istore (lv' := [(6, .int (-1)), (5, .int (nI (0))), (0, .ref h), (1, .int (nI (t))), (2, .int (nI (k))), (3, .int (x)), (4, .int (b))]) hx hb dX0_put_23 hl (by decide) rfl (fun ls hl => ?_)
    refine lv_iload hx hb dX0_put_25 (lv_at hl 0 rfl) ?_
    refine lv_if_ge (tgt := 77) hx hb dX0_put_27 (by decide) (fun hn => absurd hn (by decide)) (fun _ => ?_)
    refine lv_aload_n hx hb dX0_put_30 rfl (lv_at hl 2 rfl) ?_
    refine x_get (v := .ref (ad 13)) E w 13 (by decide) q43 rfl dX0_put_31 ?_
    refine lv_iload_n hx hb dX0_put_34 rfl (lv_at hl 3 rfl) ?_
    refine g_bald (f := σ 13) E w 12 11 rfl rfl (by omega) (by decide) dX0_put_35 ?_
    refine g_eq (y := (nI (v))) (hw) ?_
    refine lv_bipush (v := (nI (6))) hx hb dX0_put_36 (by decide) ?_
    refine lv_icmp_lt (tgt := 44) hx hb dX0_put_38 (by decide) (fun c1 => ?_) (fun c1 => ?_)
    · have hv6 : v < 6 := (nI_ltI (by omega) (by omega)).mp c1
      refine lv_bipush (v := (nI (6))) hx hb dX0_put_44 (by decide) ?_
      refine lv_iload_n hx hb dX0_put_46 rfl (lv_at hl 3 rfl) ?_
      refine n_imul hx hb dX0_put_47 ?_
      refine lv_aload_n hx hb dX0_put_48 rfl (lv_at hl 2 rfl) ?_
      refine x_get (v := .ref (ad 13)) E w 13 (by decide) q43 rfl dX0_put_49 ?_
      refine lv_iload_n hx hb dX0_put_52 rfl (lv_at hl 3 rfl) ?_
      refine g_bald (f := σ 13) E w 12 11 rfl rfl (by omega) (by decide) dX0_put_53 ?_
      refine g_eq (y := (nI (v))) (hw) ?_
      refine n_iadd hx hb dX0_put_54 ?_
      refine lv_istore (lv' := [(6, .int (nI ((6 * t) + v))), (5, .int (nI (0))), (0, .ref h), (1, .int (nI (t))), (2, .int (nI (k))), (3, .int (x)), (4, .int (b))]) hx hb dX0_put_55 hl (by decide) rfl (fun ls hl => ?_)
      refine lv_aload_n hx hb dX0_put_57 rfl (lv_at hl 2 rfl) ?_
      refine x_get (v := .ref (ad 13)) E w 13 (by decide) q43 rfl dX0_put_58 ?_
      refine lv_iload_n hx hb dX0_put_61 rfl (lv_at hl 3 rfl) ?_
      refine lv_dup2_11 hx hb dX0_put_62 rfl rfl ?_
      refine g_bald (f := σ 13) E w 12 11 rfl rfl (by omega) (by decide) dX0_put_63 ?_
      refine g_eq (y := (nI (v))) (hw) ?_
      refine lv_iconst (v := (nI (1))) hx hb dX0_put_64 (by decide) ?_
      refine n_iadd hx hb dX0_put_65 ?_
      refine lv_i2b (v := (nI (v + 1))) hx hb dX0_put_66 (fa_byte_small (by omega)) ?_
      refine g_bast (f := σ 13) (ws' := WX h ad d (su σ 13 (t) (nI (v + 1)))) E w 12 11 rfl rfl (by omega) (by decide) (nb_small (by omega)) rfl dX0_put_67 (fun H locs w => ?_)
      refine lv_aload_n hx hb dX0_put_68 rfl (lv_at hl 2 rfl) ?_
      refine x_get (v := .ref (ad 14)) E w 14 (by decide) q44 rfl dX0_put_69 ?_
      refine lv_iload hx hb dX0_put_72 (lv_at hl 0 rfl) ?_
      refine lv_iload_n hx hb dX0_put_74 rfl (lv_at hl 4 rfl) ?_
      refine lv_i2b (v := (nI (k))) hx hb dX0_put_75 (fa_byte_small (by omega)) ?_
      refine g_bast (f := σ 14) (ws' := WX h ad d (su (su σ 13 (t) (nI (v + 1))) 14 ((6 * t) + v) (nI (k)))) E w 13 12 rfl rfl (by omega) (by decide) (nb_small (by omega)) rfl dX0_put_76 (fun H locs w => ?_)
      refine lv_aload_n hx hb dX0_put_77 rfl (lv_at hl 2 rfl) ?_
      refine x_get (v := .ref (ad 15)) E w 15 (by decide) q45 rfl dX0_put_78 ?_
      refine lv_iload hx hb dX0_put_81 (lv_at hl 0 rfl) ?_
      refine lv_iload_n hx hb dX0_put_83 rfl (lv_at hl 5 rfl) ?_
      refine g_iast (f := σ 15) (ws' := WX h ad d (su (su (su σ 13 (t) (nI (v + 1))) 14 ((6 * t) + v) (nI (k))) 15 ((6 * t) + v) (x))) E w 14 13 rfl rfl (by omega) (by decide) rfl dX0_put_84 (fun H locs w => ?_)
      refine lv_aload_n hx hb dX0_put_85 rfl (lv_at hl 2 rfl) ?_
      refine x_get (v := .ref (ad 16)) E w 16 (by decide) q46 rfl dX0_put_86 ?_
      refine lv_iload hx hb dX0_put_89 (lv_at hl 0 rfl) ?_
      refine lv_iload hx hb dX0_put_91 (lv_at hl 6 rfl) ?_
      refine g_zast (f := σ 16) (ws' := WX h ad d (su (su (su (su σ 13 (t) (nI (v + 1))) 14 ((6 * t) + v) (nI (k))) 15 ((6 * t) + v) (x)) 16 ((6 * t) + v) (b))) E w 15 14 rfl rfl (by omega) (by decide) (hbn) rfl dX0_put_93 (fun H locs w => ?_)
      refine lv_aload_n hx hb dX0_put_94 rfl (lv_at hl 2 rfl) ?_
      refine x_get (v := .ref (ad 13)) E w 13 (by decide) q43 rfl dX0_put_95 ?_
      refine lv_iload_n hx hb dX0_put_98 rfl (lv_at hl 3 rfl) ?_
      refine g_bald (f := upd (σ 13) (t) (nI (v + 1))) E w 12 11 rfl rfl (by omega) (by decide) dX0_put_99 ?_
      refine g_eq (y := (nI (v + 1))) (pk_us) ?_
      exact ret _ _ _ _ _ _ (Or.inr ⟨hno, Or.inr ⟨hv6, rfl, rfl⟩⟩) w dX0_put_100
    · have hv6 : v = 6 := by
        rcases Nat.lt_or_ge v 6 with z | z
        · exact absurd (nI_lt z (by omega)) c1
        · omega
      refine lv_bipush (v := (-4)) hx hb dX0_put_41 (by decide) ?_
      exact ret _ _ _ _ _ _ (Or.inr ⟨hno, Or.inl ⟨hv6, rfl, rfl⟩⟩) w dX0_put_43
set_option maxHeartbeats 4000000 in
set_option maxRecDepth 100000 in
theorem x_write_bad (σ : ST) (t k : Int32) (x : Int32) (hbad : t < 0 ∨ nI 3 < t ∨ k < 0 ∨ nI 31 < k ∨ k < k) : KMi WX tX yX0_write cX0_write 4 (some .int) 2 [.int (t), .int (k), .int (x)] σ (fun r σ' => r = -1 ∧ σ' = σ) := by
  refine KMi.ofI (own := RX0) (by decide +kernel) rfl (fun _ => Nat.le_of_ble_eq_true rfl) ?_
  intro p l e s m args below meth c D h ad d A ls Q E w ret hl
  have hx := E.1
  have hb := E.2.1
  have hl : lv_has ls 4 [(0, .ref h), (1, .int (t)), (2, .int (k)), (3, .int (x))] := hl
  refine lv_aload_n hx hb dX0_write_0 rfl (lv_at hl 0 rfl) ?_
  refine lv_iload_n hx hb dX0_write_1 rfl (lv_at hl 1 rfl) ?_
  refine lv_iload_n hx hb dX0_write_2 rfl (lv_at hl 2 rfl) ?_
  refine lv_iload_n hx hb dX0_write_3 rfl (lv_at hl 3 rfl) ?_
  refine lv_iconst (v := (nI (1))) hx hb dX0_write_4 (by decide) ?_
  refine k_calli (ci := 0) (C := RX0) (T := TX0) (N := 21) (x_put_bad σ t k x (nI 1) hbad) E w q106 q108 qs0 q20 q109 rfl rfl 4 rfl (by decide +kernel) ⟨Nat.le_of_ble_eq_true rfl, Nat.le_of_ble_eq_true rfl⟩ hl.1 rfl (Nat.le_of_ble_eq_true rfl) dX0_write_5 ⟨Nat.zero_le _, Nat.zero_le _⟩ (fun r_5 σ_5 H locs hp_5 w => ?_)
  exact ret _ _ _ _ _ _ (hp_5) w dX0_write_8
set_option maxHeartbeats 4000000 in
set_option maxRecDepth 100000 in
theorem x_write_cl (σ : ST) (t k : Nat) (x : Int32) (ht : t < 4) (hk : k < 32) (ho : σ 9 t = 0) : KMi WX tX yX0_write cX0_write 4 (some .int) 2 [.int (nI (t)), .int (nI (k)), .int (x)] σ (fun r σ' => r = -3 ∧ σ' = σ) := by
  refine KMi.ofI (own := RX0) (by decide +kernel) rfl (fun _ => Nat.le_of_ble_eq_true rfl) ?_
  intro p l e s m args below meth c D h ad d A ls Q E w ret hl
  have hx := E.1
  have hb := E.2.1
  have hl : lv_has ls 4 [(0, .ref h), (1, .int (nI (t))), (2, .int (nI (k))), (3, .int (x))] := hl
  refine lv_aload_n hx hb dX0_write_0 rfl (lv_at hl 0 rfl) ?_
  refine lv_iload_n hx hb dX0_write_1 rfl (lv_at hl 1 rfl) ?_
  refine lv_iload_n hx hb dX0_write_2 rfl (lv_at hl 2 rfl) ?_
  refine lv_iload_n hx hb dX0_write_3 rfl (lv_at hl 3 rfl) ?_
  refine lv_iconst (v := (nI (1))) hx hb dX0_write_4 (by decide) ?_
  refine k_calli (ci := 0) (C := RX0) (T := TX0) (N := 21) (x_put_cl σ t k x (nI 1) ht hk ho) E w q106 q108 qs0 q20 q109 rfl rfl 4 rfl (by decide +kernel) ⟨Nat.le_of_ble_eq_true rfl, Nat.le_of_ble_eq_true rfl⟩ hl.1 rfl (Nat.le_of_ble_eq_true rfl) dX0_write_5 ⟨Nat.zero_le _, Nat.zero_le _⟩ (fun r_5 σ_5 H locs hp_5 w => ?_)
  exact ret _ _ _ _ _ _ (hp_5) w dX0_write_8
set_option maxHeartbeats 4000000 in
set_option maxRecDepth 100000 in
theorem x_write (σ : ST) (t k v : Nat) (x : Int32) (ht : t < 4) (hk : k < 32) (hw : σ 13 t = nI v) (hw6 : v ≤ 6) (ho : ¬ σ 9 t = 0) : KMi WX tX yX0_write cX0_write 4 (some .int) 2 [.int (nI (t)), .int (nI (k)), .int (x)] σ (fun r σ' => (∃ j, j < v ∧ σ 14 (6 * t + j) = nI k ∧ r = nI v ∧ σ' = su (su σ 15 (6 * t + j) x) 16 (6 * t + j) (nI 1)) ∨ ((∀ j, j < v → ¬ σ 14 (6 * t + j) = nI k) ∧ ((v = 6 ∧ r = -4 ∧ σ' = σ) ∨ (v < 6 ∧ r = nI (v + 1) ∧ σ' = su (su (su (su σ 13 t (nI (v + 1))) 14 (6 * t + v) (nI k)) 15 (6 * t + v) x) 16 (6 * t + v) (nI 1))))) := by
  refine KMi.ofI (own := RX0) (by decide +kernel) rfl (fun _ => Nat.le_of_ble_eq_true rfl) ?_
  intro p l e s m args below meth c D h ad d A ls Q E w ret hl
  have hx := E.1
  have hb := E.2.1
  have hl : lv_has ls 4 [(0, .ref h), (1, .int (nI (t))), (2, .int (nI (k))), (3, .int (x))] := hl
  refine lv_aload_n hx hb dX0_write_0 rfl (lv_at hl 0 rfl) ?_
  refine lv_iload_n hx hb dX0_write_1 rfl (lv_at hl 1 rfl) ?_
  refine lv_iload_n hx hb dX0_write_2 rfl (lv_at hl 2 rfl) ?_
  refine lv_iload_n hx hb dX0_write_3 rfl (lv_at hl 3 rfl) ?_
  refine lv_iconst (v := (nI (1))) hx hb dX0_write_4 (by decide) ?_
  refine k_calli (ci := 0) (C := RX0) (T := TX0) (N := 21) (x_putk σ t k v x ht hk hw hw6 ho (nI 1) rfl) E w q106 q108 qs0 q20 q109 rfl rfl 4 rfl (by decide +kernel) ⟨Nat.le_of_ble_eq_true rfl, Nat.le_of_ble_eq_true rfl⟩ hl.1 rfl (Nat.le_of_ble_eq_true rfl) dX0_write_5 ⟨Nat.zero_le _, Nat.zero_le _⟩ (fun r_5 σ_5 H locs hp_5 w => ?_)
  exact ret _ _ _ _ _ _ (hp_5) w dX0_write_8
set_option maxHeartbeats 4000000 in
set_option maxRecDepth 100000 in
theorem x_erase_bad (σ : ST) (t k : Int32) (hbad : t < 0 ∨ nI 3 < t ∨ k < 0 ∨ nI 31 < k ∨ k < k) : KMi WX tX yX0_erase cX0_erase 3 (some .int) 2 [.int (t), .int (k)] σ (fun r σ' => r = -1 ∧ σ' = σ) := by
  refine KMi.ofI (own := RX0) (by decide +kernel) rfl (fun _ => Nat.le_of_ble_eq_true rfl) ?_
  intro p l e s m args below meth c D h ad d A ls Q E w ret hl
  have hx := E.1
  have hb := E.2.1
  have hl : lv_has ls 3 [(0, .ref h), (1, .int (t)), (2, .int (k))] := hl
  refine lv_aload_n hx hb dX0_erase_0 rfl (lv_at hl 0 rfl) ?_
  refine lv_iload_n hx hb dX0_erase_1 rfl (lv_at hl 1 rfl) ?_
  refine lv_iload_n hx hb dX0_erase_2 rfl (lv_at hl 2 rfl) ?_
  refine lv_iconst (v := (nI (0))) hx hb dX0_erase_3 (by decide) ?_
  refine lv_iconst (v := (nI (0))) hx hb dX0_erase_4 (by decide) ?_
  refine k_calli (ci := 0) (C := RX0) (T := TX0) (N := 21) (x_put_bad σ t k (nI 0) (nI 0) hbad) E w q106 q108 qs0 q20 q109 rfl rfl 4 rfl (by decide +kernel) ⟨Nat.le_of_ble_eq_true rfl, Nat.le_of_ble_eq_true rfl⟩ hl.1 rfl (Nat.le_of_ble_eq_true rfl) dX0_erase_5 ⟨Nat.zero_le _, Nat.zero_le _⟩ (fun r_5 σ_5 H locs hp_5 w => ?_)
  exact ret _ _ _ _ _ _ (hp_5) w dX0_erase_8
set_option maxHeartbeats 4000000 in
set_option maxRecDepth 100000 in
theorem x_erase_cl (σ : ST) (t k : Nat) (ht : t < 4) (hk : k < 32) (ho : σ 9 t = 0) : KMi WX tX yX0_erase cX0_erase 3 (some .int) 2 [.int (nI (t)), .int (nI (k))] σ (fun r σ' => r = -3 ∧ σ' = σ) := by
  refine KMi.ofI (own := RX0) (by decide +kernel) rfl (fun _ => Nat.le_of_ble_eq_true rfl) ?_
  intro p l e s m args below meth c D h ad d A ls Q E w ret hl
  have hx := E.1
  have hb := E.2.1
  have hl : lv_has ls 3 [(0, .ref h), (1, .int (nI (t))), (2, .int (nI (k)))] := hl
  refine lv_aload_n hx hb dX0_erase_0 rfl (lv_at hl 0 rfl) ?_
  refine lv_iload_n hx hb dX0_erase_1 rfl (lv_at hl 1 rfl) ?_
  refine lv_iload_n hx hb dX0_erase_2 rfl (lv_at hl 2 rfl) ?_
  refine lv_iconst (v := (nI (0))) hx hb dX0_erase_3 (by decide) ?_
  refine lv_iconst (v := (nI (0))) hx hb dX0_erase_4 (by decide) ?_
  refine k_calli (ci := 0) (C := RX0) (T := TX0) (N := 21) (x_put_cl σ t k (nI 0) (nI 0) ht hk ho) E w q106 q108 qs0 q20 q109 rfl rfl 4 rfl (by decide +kernel) ⟨Nat.le_of_ble_eq_true rfl, Nat.le_of_ble_eq_true rfl⟩ hl.1 rfl (Nat.le_of_ble_eq_true rfl) dX0_erase_5 ⟨Nat.zero_le _, Nat.zero_le _⟩ (fun r_5 σ_5 H locs hp_5 w => ?_)
  exact ret _ _ _ _ _ _ (hp_5) w dX0_erase_8
set_option maxHeartbeats 4000000 in
set_option maxRecDepth 100000 in
theorem x_erase (σ : ST) (t k v : Nat) (ht : t < 4) (hk : k < 32) (hw : σ 13 t = nI v) (hw6 : v ≤ 6) (ho : ¬ σ 9 t = 0) : KMi WX tX yX0_erase cX0_erase 3 (some .int) 2 [.int (nI (t)), .int (nI (k))] σ (fun r σ' => (∃ j, j < v ∧ σ 14 (6 * t + j) = nI k ∧ r = nI v ∧ σ' = su (su σ 15 (6 * t + j) (nI 0)) 16 (6 * t + j) (nI 0)) ∨ ((∀ j, j < v → ¬ σ 14 (6 * t + j) = nI k) ∧ ((v = 6 ∧ r = -4 ∧ σ' = σ) ∨ (v < 6 ∧ r = nI (v + 1) ∧ σ' = su (su (su (su σ 13 t (nI (v + 1))) 14 (6 * t + v) (nI k)) 15 (6 * t + v) (nI 0)) 16 (6 * t + v) (nI 0))))) := by
  refine KMi.ofI (own := RX0) (by decide +kernel) rfl (fun _ => Nat.le_of_ble_eq_true rfl) ?_
  intro p l e s m args below meth c D h ad d A ls Q E w ret hl
  have hx := E.1
  have hb := E.2.1
  have hl : lv_has ls 3 [(0, .ref h), (1, .int (nI (t))), (2, .int (nI (k)))] := hl
  refine lv_aload_n hx hb dX0_erase_0 rfl (lv_at hl 0 rfl) ?_
  refine lv_iload_n hx hb dX0_erase_1 rfl (lv_at hl 1 rfl) ?_
  refine lv_iload_n hx hb dX0_erase_2 rfl (lv_at hl 2 rfl) ?_
  refine lv_iconst (v := (nI (0))) hx hb dX0_erase_3 (by decide) ?_
  refine lv_iconst (v := (nI (0))) hx hb dX0_erase_4 (by decide) ?_
  refine k_calli (ci := 0) (C := RX0) (T := TX0) (N := 21) (x_putk σ t k v (nI 0) ht hk hw hw6 ho (nI 0) rfl) E w q106 q108 qs0 q20 q109 rfl rfl 4 rfl (by decide +kernel) ⟨Nat.le_of_ble_eq_true rfl, Nat.le_of_ble_eq_true rfl⟩ hl.1 rfl (Nat.le_of_ble_eq_true rfl) dX0_erase_5 ⟨Nat.zero_le _, Nat.zero_le _⟩ (fun r_5 σ_5 H locs hp_5 w => ?_)
  exact ret _ _ _ _ _ _ (hp_5) w dX0_erase_8
end
section
set_option maxRecDepth 100000
set_option maxHeartbeats 4000000 in
set_option maxRecDepth 100000 in
theorem x_begin_bad (σ : ST) (t : Int32) (hbad : t < 0 ∨ nI 3 < t) : KMi WX tX yX0_begin cX0_begin 2 (some .int) 0 [.int (t)] σ (fun r σ' => r = -1 ∧ σ' = σ) := by
  refine KMi.ofI (own := RX0) (by decide +kernel) rfl (fun _ => Nat.le_of_ble_eq_true rfl) ?_
  intro p l e s m args below meth c D h ad d A ls Q E w ret hl
  have hx := E.1
  have hb := E.2.1
  have hl : lv_has ls 2 [(0, .ref h), (1, .int (t))] := hl
  refine lv_iload_n hx hb dX0_begin_0 rfl (lv_at hl 1 rfl) ?_
  refine lv_if_lt (tgt := 9) hx hb dX0_begin_1 (by decide) (fun c1 => ?_) (fun c1 => ?_)
  · refine lv_iconst (v := (-1)) hx hb dX0_begin_9 (by decide) ?_
    exact ret _ _ _ _ _ _ (⟨rfl, rfl⟩) w dX0_begin_10
  · refine lv_iload_n hx hb dX0_begin_4 rfl (lv_at hl 1 rfl) ?_
    refine lv_iconst (v := (nI (3))) hx hb dX0_begin_5 (by decide) ?_
    refine lv_icmp_le (tgt := 11) hx hb dX0_begin_6 (by decide) (fun hn => absurd hn ((fa_of_lt (hbad.resolve_left c1)).2.1)) (fun _ => ?_)
    refine lv_iconst (v := (-1)) hx hb dX0_begin_9 (by decide) ?_
    exact ret _ _ _ _ _ _ (⟨rfl, rfl⟩) w dX0_begin_10
set_option maxHeartbeats 4000000 in
set_option maxRecDepth 100000 in
theorem x_begin_op (σ : ST) (t : Nat) (ht : t < 4) (ho : ¬ σ 9 t = 0) : KMi WX tX yX0_begin cX0_begin 2 (some .int) 0 [.int (nI (t))] σ (fun r σ' => r = -2 ∧ σ' = σ) := by
  refine KMi.ofI (own := RX0) (by decide +kernel) rfl (fun _ => Nat.le_of_ble_eq_true rfl) ?_
  intro p l e s m args below meth c D h ad d A ls Q E w ret hl
  have hx := E.1
  have hb := E.2.1
  have hl : lv_has ls 2 [(0, .ref h), (1, .int (nI (t)))] := hl
  refine lv_iload_n hx hb dX0_begin_0 rfl (lv_at hl 1 rfl) ?_
  refine lv_if_lt (tgt := 9) hx hb dX0_begin_1 (by decide) (fun hn => absurd hn (nI_pos (by omega))) (fun _ => ?_)
  refine lv_iload_n hx hb dX0_begin_4 rfl (lv_at hl 1 rfl) ?_
  refine lv_iconst (v := (nI (3))) hx hb dX0_begin_5 (by decide) ?_
  refine lv_icmp_le (tgt := 11) hx hb dX0_begin_6 (by decide) (fun _ => ?_) (fun hn => absurd (nI_le (by omega) (by omega)) hn)
  refine lv_aload_n hx hb dX0_begin_11 rfl (lv_at hl 0 rfl) ?_
  refine x_get (v := .ref (ad 9)) E w 9 (by decide) q39 rfl dX0_begin_12 ?_
  refine lv_iload_n hx hb dX0_begin_15 rfl (lv_at hl 1 rfl) ?_
  refine g_zald (f := σ 9) E w 8 7 rfl rfl (by omega) (by decide) dX0_begin_16 ?_
  refine lv_if_eq (tgt := 23) hx hb dX0_begin_17 (by decide) (fun hn => absurd hn (ho)) (fun _ => ?_)
  refine lv_bipush (v := (-2)) hx hb dX0_begin_20 (by decide) ?_
  exact ret _ _ _ _ _ _ (⟨rfl, rfl⟩) w dX0_begin_22
set_option maxHeartbeats 4000000 in
set_option maxRecDepth 100000 in
theorem x_begin (σ : ST) (t : Nat) (L : Nat) (hL : σ 7 0 = nI L) (hL2 : L < 1000) (ht : t < 4) (ho : σ 9 t = 0) (h8 : vp_nar .short (σ 8 (L % 6)) = σ 8 (L % 6)) : KMi WX tX yX0_begin cX0_begin 2 (some .int) 0 [.int (nI (t))] σ (fun r σ' => r = nI L ∧ σ' = su (su (su (su (su σ 9 t (nI 1)) 10 t (nI L)) 11 t (σ 8 (L % 6))) 12 t (nI 0)) 13 t (nI 0)) := by
  refine KMi.ofI (own := RX0) (by decide +kernel) rfl (fun _ => Nat.le_of_ble_eq_true rfl) ?_
  intro p l e s m args below meth c D h ad d A ls Q E w ret hl
  have hx := E.1
  have hb := E.2.1
  have hl : lv_has ls 2 [(0, .ref h), (1, .int (nI (t)))] := hl
  refine lv_iload_n hx hb dX0_begin_0 rfl (lv_at hl 1 rfl) ?_
  refine lv_if_lt (tgt := 9) hx hb dX0_begin_1 (by decide) (fun hn => absurd hn (nI_pos (by omega))) (fun _ => ?_)
  refine lv_iload_n hx hb dX0_begin_4 rfl (lv_at hl 1 rfl) ?_
  refine lv_iconst (v := (nI (3))) hx hb dX0_begin_5 (by decide) ?_
  refine lv_icmp_le (tgt := 11) hx hb dX0_begin_6 (by decide) (fun _ => ?_) (fun hn => absurd (nI_le (by omega) (by omega)) hn)
  refine lv_aload_n hx hb dX0_begin_11 rfl (lv_at hl 0 rfl) ?_
  refine x_get (v := .ref (ad 9)) E w 9 (by decide) q39 rfl dX0_begin_12 ?_
  refine lv_iload_n hx hb dX0_begin_15 rfl (lv_at hl 1 rfl) ?_
  refine g_zald (f := σ 9) E w 8 7 rfl rfl (by omega) (by decide) dX0_begin_16 ?_
  refine lv_if_eq (tgt := 23) hx hb dX0_begin_17 (by decide) (fun _ => ?_) (fun hn => absurd (ho) hn)
  refine lv_aload_n hx hb dX0_begin_23 rfl (lv_at hl 0 rfl) ?_
  refine x_get (v := .ref (ad 9)) E w 9 (by decide) q39 rfl dX0_begin_24 ?_
  refine lv_iload_n hx hb dX0_begin_27 rfl (lv_at hl 1 rfl) ?_
  refine lv_iconst (v := (nI (1))) hx hb dX0_begin_28 (by decide) ?_
  refine g_zast (f := σ 9) (ws' := WX h ad d (su σ 9 (t) (nI (1)))) E w 8 7 rfl rfl (by omega) (by decide) (rfl) rfl dX0_begin_29 (fun H locs w => ?_)
  refine lv_aload_n hx hb dX0_begin_30 rfl (lv_at hl 0 rfl) ?_
  refine x_get (v := .ref (ad 10)) E w 10 (by decide) q40 rfl dX0_begin_31 ?_
  refine lv_iload_n hx hb dX0_begin_34 rfl (lv_at hl 1 rfl) ?_
  refine lv_aload_n hx hb dX0_begin_35 rfl (lv_at hl 0 rfl) ?_
  refine x_get (v := .int (σ 7 0)) E w 7 (by decide) q37 rfl dX0_begin_36 ?_
  refine g_eq (y := (nI (L))) (hL) ?_
  refine g_iast (f := σ 10) (ws' := WX h ad d (su (su σ 9 (t) (nI (1))) 10 (t) (nI (L)))) E w 9 8 rfl rfl (by omega) (by decide) rfl dX0_begin_39 (fun H locs w => ?_)
  refine lv_aload_n hx hb dX0_begin_40 rfl (lv_at hl 0 rfl) ?_
  refine x_get (v := .ref (ad 11)) E w 11 (by decide) q41 rfl dX0_begin_41 ?_
  refine lv_iload_n hx hb dX0_begin_44 rfl (lv_at hl 1 rfl) ?_
  refine lv_aload_n hx hb dX0_begin_45 rfl (lv_at hl 0 rfl) ?_
  refine x_get (v := .ref (ad 8)) E w 8 (by decide) q38 rfl dX0_begin_46 ?_
  refine lv_aload_n hx hb dX0_begin_49 rfl (lv_at hl 0 rfl) ?_
  refine x_get (v := .int (σ 7 0)) E w 7 (by decide) q37 rfl dX0_begin_50 ?_
  refine g_eq (y := (nI (L))) (hL) ?_
  refine lv_bipush (v := (nI (6))) hx hb dX0_begin_53 (by decide) ?_
  refine n_irem (by omega) (by decide) (by decide) hx hb dX0_begin_55 ?_
  refine g_sald (f := σ 8) E w 7 6 rfl rfl (by omega) (by decide) dX0_begin_56 ?_
  refine g_sast (f := σ 11) (ws' := WX h ad d (su (su (su σ 9 (t) (nI (1))) 10 (t) (nI (L))) 11 (t) (σ 8 (L % 6)))) E w 10 9 rfl rfl (by omega) (by decide) (h8) rfl dX0_begin_57 (fun H locs w => ?_)
  refine lv_aload_n hx hb dX0_begin_58 rfl (lv_at hl 0 rfl) ?_
  refine x_get (v := .ref (ad 12)) E w 12 (by decide) q42 rfl dX0_begin_59 ?_
  refine lv_iload_n hx hb dX0_begin_62 rfl (lv_at hl 1 rfl) ?_
  refine lv_iconst (v := (nI (0))) hx hb dX0_begin_63 (by decide) ?_
  refine g_iast (f := σ 12) (ws' := WX h ad d (su (su (su (su σ 9 (t) (nI (1))) 10 (t) (nI (L))) 11 (t) (σ 8 (L % 6))) 12 (t) (nI (0)))) E w 11 10 rfl rfl (by omega) (by decide) rfl dX0_begin_64 (fun H locs w => ?_)
  refine lv_aload_n hx hb dX0_begin_65 rfl (lv_at hl 0 rfl) ?_
  refine x_get (v := .ref (ad 13)) E w 13 (by decide) q43 rfl dX0_begin_66 ?_
  refine lv_iload_n hx hb dX0_begin_69 rfl (lv_at hl 1 rfl) ?_
  refine lv_iconst (v := (nI (0))) hx hb dX0_begin_70 (by decide) ?_
  refine g_bast (f := σ 13) (ws' := WX h ad d (su (su (su (su (su σ 9 (t) (nI (1))) 10 (t) (nI (L))) 11 (t) (σ 8 (L % 6))) 12 (t) (nI (0))) 13 (t) (nI (0)))) E w 12 11 rfl rfl (by omega) (by decide) (nb_small (by decide)) rfl dX0_begin_71 (fun H locs w => ?_)
  refine lv_aload_n hx hb dX0_begin_72 rfl (lv_at hl 0 rfl) ?_
  refine x_get (v := .int (σ 7 0)) E w 7 (by decide) q37 rfl dX0_begin_73 ?_
  refine g_eq (y := (nI (L))) (hL) ?_
  exact ret _ _ _ _ _ _ (⟨rfl, rfl⟩) w dX0_begin_76
set_option maxHeartbeats 4000000 in
set_option maxRecDepth 100000 in
theorem x_abort_bad (σ : ST) (t : Int32) (hbad : t < 0 ∨ nI 3 < t) : KMi WX tX yX0_abort cX0_abort 3 (some .int) 1 [.int (t)] σ (fun r σ' => r = -1 ∧ σ' = σ) := by
  refine KMi.ofI (own := RX0) (by decide +kernel) rfl (fun _ => Nat.le_of_ble_eq_true rfl) ?_
  intro p l e s m args below meth c D h ad d A ls Q E w ret hl
  have hx := E.1
  have hb := E.2.1
  have hl : lv_has ls 3 [(0, .ref h), (1, .int (t))] := hl
  refine lv_aload_n hx hb dX0_abort_0 rfl (lv_at hl 0 rfl) ?_
  refine lv_iload_n hx hb dX0_abort_1 rfl (lv_at hl 1 rfl) ?_
  refine lv_iconst (v := (nI (0))) hx hb dX0_abort_2 (by decide) ?_
  refine lv_iconst (v := (nI (0))) hx hb dX0_abort_3 (by decide) ?_
  refine k_calli (ci := 0) (C := RX0) (T := TX0) (N := 21) (x_check_bad σ t (nI 0) (nI 0) (by rcases hbad with z | z; exact Or.inl z; exact Or.inr (Or.inl z))) E w q110 q112 qs1 q20 q113 rfl rfl 3 rfl (by decide +kernel) ⟨Nat.le_of_ble_eq_true rfl, Nat.le_of_ble_eq_true rfl⟩ hl.1 rfl (Nat.le_of_ble_eq_true rfl) dX0_abort_4 ⟨Nat.zero_le _, Nat.zero_le _⟩ (fun r_4 σ_4 H locs hp_4 w => ?_)
  obtain ⟨e1, e2⟩ := hp_4
  rw [e2] at w
  refine g_eq (y := (-1)) (e1) ?_
  refine lv_istore_n (lv' := [(2, .int (-1)), (0, .ref h), (1, .int (t))]) hx hb dX0_abort_7 rfl hl (by decide) rfl (fun ls hl => ?_)
  refine lv_iload_n hx hb dX0_abort_8 rfl (lv_at hl 0 rfl) ?_
  refine lv_if_eq (tgt := 14) hx hb dX0_abort_9 (by decide) (fun hn => absurd hn (by decide)) (fun _ => ?_)
  refine lv_iload_n hx hb dX0_abort_12 rfl (lv_at hl 0 rfl) ?_
  exact ret _ _ _ _ _ _ (⟨rfl, rfl⟩) w dX0_abort_13
set_option maxHeartbeats 4000000 in
set_option maxRecDepth 100000 in
theorem x_abort_cl (σ : ST) (t : Nat) (ht : t < 4) (ho : σ 9 t = 0) : KMi WX tX yX0_abort cX0_abort 3 (some .int) 1 [.int (nI (t))] σ (fun r σ' => r = -3 ∧ σ' = σ) := by
  refine KMi.ofI (own := RX0) (by decide +kernel) rfl (fun _ => Nat.le_of_ble_eq_true rfl) ?_
  intro p l e s m args below meth c D h ad d A ls Q E w ret hl
  have hx := E.1
  have hb := E.2.1
  have hl : lv_has ls 3 [(0, .ref h), (1, .int (nI (t)))] := hl
  refine lv_aload_n hx hb dX0_abort_0 rfl (lv_at hl 0 rfl) ?_
  refine lv_iload_n hx hb dX0_abort_1 rfl (lv_at hl 1 rfl) ?_
  refine lv_iconst (v := (nI (0))) hx hb dX0_abort_2 (by decide) ?_
  refine lv_iconst (v := (nI (0))) hx hb dX0_abort_3 (by decide) ?_
  refine k_calli (ci := 0) (C := RX0) (T := TX0) (N := 21) (x_check_ok σ t 0 0 ht (Nat.le_refl _) (by decide)) E w q110 q112 qs1 q20 q113 rfl rfl 3 rfl (by decide +kernel) ⟨Nat.le_of_ble_eq_true rfl, Nat.le_of_ble_eq_true rfl⟩ hl.1 rfl (Nat.le_of_ble_eq_true rfl) dX0_abort_4 ⟨Nat.zero_le _, Nat.zero_le _⟩ (fun r_4 σ_4 H locs hp_4 w => ?_)
  obtain ⟨z1, z2, e2⟩ := hp_4
  rw [e2] at w
  have e1 := z1 ho
  refine g_eq (y := (-3)) (e1) ?_
  refine lv_istore_n (lv' := [(2, .int (-3)), (0, .ref h), (1, .int (nI (t)))]) hx hb dX0_abort_7 rfl hl (by decide) rfl (fun ls hl => ?_)
  refine lv_iload_n hx hb dX0_abort_8 rfl (lv_at hl 0 rfl) ?_
  refine lv_if_eq (tgt := 14) hx hb dX0_abort_9 (by decide) (fun hn => absurd hn (by decide)) (fun _ => ?_)
  refine lv_iload_n hx hb dX0_abort_12 rfl (lv_at hl 0 rfl) ?_
  exact ret _ _ _ _ _ _ (⟨rfl, rfl⟩) w dX0_abort_13
set_option maxHeartbeats 4000000 in
set_option maxRecDepth 100000 in
theorem x_abort (σ : ST) (t v : Nat) (ht : t < 4) (ho : ¬ σ 9 t = 0) (hw : σ 13 t = nI v) : KMi WX tX yX0_abort cX0_abort 3 (some .int) 1 [.int (nI (t))] σ (fun r σ' => r = nI v ∧ σ' = su (su σ 9 t (nI 0)) 11 t (-1)) := by
  refine KMi.ofI (own := RX0) (by decide +kernel) rfl (fun _ => Nat.le_of_ble_eq_true rfl) ?_
  intro p l e s m args below meth c D h ad d A ls Q E w ret hl
  have hx := E.1
  have hb := E.2.1
  have hl : lv_has ls 3 [(0, .ref h), (1, .int (nI (t)))] := hl
  refine lv_aload_n hx hb dX0_abort_0 rfl (lv_at hl 0 rfl) ?_
  refine lv_iload_n hx hb dX0_abort_1 rfl (lv_at hl 1 rfl) ?_
  refine lv_iconst (v := (nI (0))) hx hb dX0_abort_2 (by decide) ?_
  refine lv_iconst (v := (nI (0))) hx hb dX0_abort_3 (by decide) ?_
  refine k_calli (ci := 0) (C := RX0) (T := TX0) (N := 21) (x_check_ok σ t 0 0 ht (Nat.le_refl _) (by decide)) E w q110 q112 qs1 q20 q113 rfl rfl 3 rfl (by decide +kernel) ⟨Nat.le_of_ble_eq_true rfl, Nat.le_of_ble_eq_true rfl⟩ hl.1 rfl (Nat.le_of_ble_eq_true rfl) dX0_abort_4 ⟨Nat.zero_le _, Nat.zero_le _⟩ (fun r_4 σ_4 H locs hp_4 w => ?_)
  obtain ⟨z1, z2, e2⟩ := hp_4
  rw [e2] at w
  have e1 := z2 ho
  refine g_eq (y := (nI (0))) (e1) ?_
  refine lv_istore_n (lv' := [(2, .int (nI (0))), (0, .ref h), (1, .int (nI (t)))]) hx hb dX0_abort_7 rfl hl (by decide) rfl (fun ls hl => ?_)
  refine lv_iload_n hx hb dX0_abort_8 rfl (lv_at hl 0 rfl) ?_
  refine lv_if_eq (tgt := 14) hx hb dX0_abort_9 (by decide) (fun _ => ?_) (fun hn => absurd (nI_0) hn)
  refine lv_aload_n hx hb dX0_abort_14 rfl (lv_at hl 1 rfl) ?_
  refine x_get (v := .ref (ad 9)) E w 9 (by decide) q39 rfl dX0_abort_15 ?_
  refine lv_iload_n hx hb dX0_abort_18 rfl (lv_at hl 2 rfl) ?_
  refine lv_iconst (v := (nI (0))) hx hb dX0_abort_19 (by decide) ?_
  refine g_zast (f := σ 9) (ws' := WX h ad d (su σ 9 (t) (nI (0)))) E w 8 7 rfl rfl (by omega) (by decide) (rfl) rfl dX0_abort_20 (fun H locs w => ?_)
  refine lv_aload_n hx hb dX0_abort_21 rfl (lv_at hl 1 rfl) ?_
  refine x_get (v := .ref (ad 11)) E w 11 (by decide) q41 rfl dX0_abort_22 ?_
  refine lv_iload_n hx hb dX0_abort_25 rfl (lv_at hl 2 rfl) ?_
  refine lv_iconst (v := (-1)) hx hb dX0_abort_26 (by decide) ?_
  refine g_sast (f := σ 11) (ws' := WX h ad d (su (su σ 9 (t) (nI (0))) 11 (t) (-1))) E w 10 9 rfl rfl (by omega) (by decide) (ns_m1) rfl dX0_abort_27 (fun H locs w => ?_)
  refine lv_aload_n hx hb dX0_abort_28 rfl (lv_at hl 1 rfl) ?_
  refine x_get (v := .ref (ad 13)) E w 13 (by decide) q43 rfl dX0_abort_29 ?_
  refine lv_iload_n hx hb dX0_abort_32 rfl (lv_at hl 2 rfl) ?_
  refine g_bald (f := σ 13) E w 12 11 rfl rfl (by omega) (by decide) dX0_abort_33 ?_
  refine g_eq (y := (nI (v))) (hw) ?_
  exact ret _ _ _ _ _ _ (⟨rfl, rfl⟩) w dX0_abort_34
set_option maxHeartbeats 4000000 in
set_option maxRecDepth 100000 in
theorem x_latest (σ : ST) (L : Nat) (hL : σ 7 0 = nI L) (hL2 : L < 1000) : KMi WX tX yX0_latest cX0_latest 1 (some .int) 0 [] σ (fun r σ' => r = nI L ∧ σ' = σ) := by
  refine KMi.ofI (own := RX0) (by decide +kernel) rfl (fun _ => Nat.le_of_ble_eq_true rfl) ?_
  intro p l e s m args below meth c D h ad d A ls Q E w ret hl
  have hx := E.1
  have hb := E.2.1
  have hl : lv_has ls 1 [(0, .ref h)] := hl
  refine lv_aload_n hx hb dX0_latest_0 rfl (lv_at hl 0 rfl) ?_
  refine x_get (v := .int (σ 7 0)) E w 7 (by decide) q37 rfl dX0_latest_1 ?_
  refine g_eq (y := (nI (L))) (hL) ?_
  exact ret _ _ _ _ _ _ (⟨rfl, rfl⟩) w dX0_latest_4
set_option maxHeartbeats 4000000 in
set_option maxRecDepth 100000 in
theorem x_isKept_y (σ : ST) (a : Nat) (L : Nat) (hL : σ 7 0 = nI L) (hL2 : L < 1000) (ha : a ≤ L) (ha6 : L < a + 6) : KMi WX tX yX0_isKept cX0_isKept 2 (some .boolean) 0 [.int (nI (a))] σ (fun r σ' => r = nI 1 ∧ σ' = σ) := by
  refine KMi.ofZ (own := RX0) (by decide +kernel) rfl (fun _ => Nat.le_of_ble_eq_true rfl) ?_
  intro p l e s m args below meth c D h ad d A ls Q E w ret hl
  have hx := E.1
  have hb := E.2.1
  have hl : lv_has ls 2 [(0, .ref h), (1, .int (nI (a)))] := hl
  refine lv_iload_n hx hb dX0_isKept_0 rfl (lv_at hl 1 rfl) ?_
  refine lv_if_lt (tgt := 27) hx hb dX0_isKept_1 (by decide) (fun hn => absurd hn (nI_pos (by omega))) (fun _ => ?_)
  refine lv_iload_n hx hb dX0_isKept_4 rfl (lv_at hl 1 rfl) ?_
  refine lv_aload_n hx hb dX0_isKept_5 rfl (lv_at hl 0 rfl) ?_
  refine x_get (v := .int (σ 7 0)) E w 7 (by decide) q37 rfl dX0_isKept_6 ?_
  refine g_eq (y := (nI (L))) (hL) ?_
  refine lv_icmp_gt (tgt := 27) hx hb dX0_isKept_9 (by decide) (fun hn => absurd hn (nI_nlt (by omega) (by omega))) (fun _ => ?_)
  refine lv_iload_n hx hb dX0_isKept_12 rfl (lv_at hl 1 rfl) ?_
  refine lv_aload_n hx hb dX0_isKept_13 rfl (lv_at hl 0 rfl) ?_
  refine x_get (v := .int (σ 7 0)) E w 7 (by decide) q37 rfl dX0_isKept_14 ?_
  refine g_eq (y := (nI (L))) (hL) ?_
  refine lv_bipush (v := (nI (6))) hx hb dX0_isKept_17 (by decide) ?_
  refine lv_isub hx hb dX0_isKept_19 ?_
  refine lv_icmp_le (tgt := 27) hx hb dX0_isKept_20 (by decide) (fun hn => absurd hn (kept_n hL2 ha ha6)) (fun _ => ?_)
  refine lv_iconst (v := (nI (1))) hx hb dX0_isKept_23 (by decide) ?_
  refine lv_goto (tgt := 28) hx hb dX0_isKept_24 (by decide) ?_
  exact ret _ _ _ _ _ _ (rfl) (⟨rfl, rfl⟩) w dX0_isKept_28
set_option maxHeartbeats 4000000 in
set_option maxRecDepth 100000 in
theorem x_isKept_n (σ : ST) (x : Int32) (L : Nat) (hL : σ 7 0 = nI L) (hL2 : L < 1000) (hk : ¬ ∃ a, x = nI a ∧ a ≤ L ∧ L < a + 6) : KMi WX tX yX0_isKept cX0_isKept 2 (some .boolean) 0 [.int (x)] σ (fun r σ' => r = nI 0 ∧ σ' = σ) := by
  refine KMi.ofZ (own := RX0) (by decide +kernel) rfl (fun _ => Nat.le_of_ble_eq_true rfl) ?_
  intro p l e s m args below meth c D h ad d A ls Q E w ret hl
  have hx := E.1
  have hb := E.2.1
  have hl : lv_has ls 2 [(0, .ref h), (1, .int (x))] := hl
  refine lv_iload_n hx hb dX0_isKept_0 rfl (lv_at hl 1 rfl) ?_
  refine lv_if_lt (tgt := 27) hx hb dX0_isKept_1 (by decide) (fun c1 => ?_) (fun c1 => ?_)
  · refine lv_iconst (v := (nI (0))) hx hb dX0_isKept_27 (by decide) ?_
    exact ret _ _ _ _ _ _ (rfl) (⟨rfl, rfl⟩) w dX0_isKept_28
  · refine lv_iload_n hx hb dX0_isKept_4 rfl (lv_at hl 1 rfl) ?_
    refine lv_aload_n hx hb dX0_isKept_5 rfl (lv_at hl 0 rfl) ?_
    refine x_get (v := .int (σ 7 0)) E w 7 (by decide) q37 rfl dX0_isKept_6 ?_
    refine g_eq (y := (nI (L))) (hL) ?_
    refine lv_icmp_gt (tgt := 27) hx hb dX0_isKept_9 (by decide) (fun c2 => ?_) (fun c2 => ?_)
    · refine lv_iconst (v := (nI (0))) hx hb dX0_isKept_27 (by decide) ?_
      exact ret _ _ _ _ _ _ (rfl) (⟨rfl, rfl⟩) w dX0_isKept_28
    · refine lv_iload_n hx hb dX0_isKept_12 rfl (lv_at hl 1 rfl) ?_
      refine lv_aload_n hx hb dX0_isKept_13 rfl (lv_at hl 0 rfl) ?_
      refine x_get (v := .int (σ 7 0)) E w 7 (by decide) q37 rfl dX0_isKept_14 ?_
      refine g_eq (y := (nI (L))) (hL) ?_
      refine lv_bipush (v := (nI (6))) hx hb dX0_isKept_17 (by decide) ?_
      refine lv_isub hx hb dX0_isKept_19 ?_
      refine lv_icmp_le (tgt := 27) hx hb dX0_isKept_20 (by decide) (fun _ => ?_) (fun hn => absurd (Classical.byContradiction (fun c3 => hk (kept_of hL2 c1 c2 c3))) hn)
      refine lv_iconst (v := (nI (0))) hx hb dX0_isKept_27 (by decide) ?_
      exact ret _ _ _ _ _ _ (rfl) (⟨rfl, rfl⟩) w dX0_isKept_28
set_option maxHeartbeats 4000000 in
set_option maxRecDepth 100000 in
theorem x_has_nk (σ : ST) (x k : Int32) (L : Nat) (hL : σ 7 0 = nI L) (hL2 : L < 1000) (hk : ¬ ∃ a, x = nI a ∧ a ≤ L ∧ L < a + 6) : KMi WX tX yX0_has cX0_has 4 (some .boolean) 1 [.int (x), .int (k)] σ (fun r σ' => r = nI 0 ∧ σ' = σ) := by
  refine KMi.ofZ (own := RX0) (by decide +kernel) rfl (fun _ => Nat.le_of_ble_eq_true rfl) ?_
  intro p l e s m args below meth c D h ad d A ls Q E w ret hl
  have hx := E.1
  have hb := E.2.1
  have hl : lv_has ls 4 [(0, .ref h), (1, .int (x)), (2, .int (k))] := hl
  refine lv_aload_n hx hb dX0_has_0 rfl (lv_at hl 0 rfl) ?_
  refine lv_iload_n hx hb dX0_has_1 rfl (lv_at hl 1 rfl) ?_
  refine k_calli (ci := 0) (C := RX0) (T := TX0) (N := 21) (x_isKept_n σ x L hL hL2 hk) E w q182 q184 qs11 q20 q185 rfl rfl 1 rfl (by decide +kernel) ⟨Nat.le_of_ble_eq_true rfl, Nat.le_of_ble_eq_true rfl⟩ hl.1 rfl (Nat.le_of_ble_eq_true rfl) dX0_has_2 ⟨Nat.zero_le _, Nat.zero_le _⟩ (fun r_2 σ_2 H locs hp_2 w => ?_)
  obtain ⟨e1, e2⟩ := hp_2
  rw [e2] at w
  refine g_eq (y := (nI (0))) (e1) ?_
  refine lv_if_eq (tgt := 18) hx hb dX0_has_5 (by decide) (fun _ => ?_) (fun hn => absurd (nI_0) hn)
  refine lv_iconst (v := (nI (0))) hx hb dX0_has_18 (by decide) ?_
  exact ret _ _ _ _ _ _ (rfl) (⟨rfl, rfl⟩) w dX0_has_19
set_option maxHeartbeats 4000000 in
set_option maxRecDepth 100000 in
theorem x_has_bk (σ : ST) (a : Nat) (k : Int32) (L : Nat) (hL : σ 7 0 = nI L) (hL2 : L < 1000) (ha : a ≤ L) (ha6 : L < a + 6) (hk : k < 0 ∨ nI 31 < k) : KMi WX tX yX0_has cX0_has 4 (some .boolean) 1 [.int (nI (a)), .int (k)] σ (fun r σ' => r = nI 0 ∧ σ' = σ) := by
  refine KMi.ofZ (own := RX0) (by decide +kernel) rfl (fun _ => Nat.le_of_ble_eq_true rfl) ?_
  intro p l e s m args below meth c D h ad d A ls Q E w ret hl
  have hx := E.1
  have hb := E.2.1
  have hl : lv_has ls 4 [(0, .ref h), (1, .int (nI (a))), (2, .int (k))] := hl
  refine lv_aload_n hx hb dX0_has_0 rfl (lv_at hl 0 rfl) ?_
  refine lv_iload_n hx hb dX0_has_1 rfl (lv_at hl 1 rfl) ?_
  refine k_calli (ci := 0) (C := RX0) (T := TX0) (N := 21) (x_isKept_y σ a L hL hL2 ha ha6) E w q182 q184 qs11 q20 q185 rfl rfl 1 rfl (by decide +kernel) ⟨Nat.le_of_ble_eq_true rfl, Nat.le_of_ble_eq_true rfl⟩ hl.1 rfl (Nat.le_of_ble_eq_true rfl) dX0_has_2 ⟨Nat.zero_le _, Nat.zero_le _⟩ (fun r_2 σ_2 H locs hp_2 w => ?_)
  obtain ⟨e1, e2⟩ := hp_2
  rw [e2] at w
  refine g_eq (y := (nI (1))) (e1) ?_
  refine lv_if_eq (tgt := 18) hx hb dX0_has_5 (by decide) (fun hn => absurd hn (by decide)) (fun _ => ?_)
  refine lv_iload_n hx hb dX0_has_8 rfl (lv_at hl 2 rfl) ?_
  refine lv_if_lt (tgt := 18) hx hb dX0_has_9 (by decide) (fun c1 => ?_) (fun c1 => ?_)
  · refine lv_iconst (v := (nI (0))) hx hb dX0_has_18 (by decide) ?_
    exact ret _ _ _ _ _ _ (rfl) (⟨rfl, rfl⟩) w dX0_has_19
  · refine lv_iload_n hx hb dX0_has_12 rfl (lv_at hl 2 rfl) ?_
    refine lv_bipush (v := (nI (31))) hx hb dX0_has_13 (by decide) ?_
    refine lv_icmp_le (tgt := 20) hx hb dX0_has_15 (by decide) (fun hn => absurd hn ((fa_of_lt (hk.resolve_left c1)).2.1)) (fun _ => ?_)
    refine lv_iconst (v := (nI (0))) hx hb dX0_has_18 (by decide) ?_
    exact ret _ _ _ _ _ _ (rfl) (⟨rfl, rfl⟩) w dX0_has_19
set_option maxHeartbeats 4000000 in
set_option maxRecDepth 100000 in
theorem x_has (σ : ST) (a k N : Nat) (L : Nat) (hL : σ 7 0 = nI L) (hL2 : L < 1000) (ha : a ≤ L) (ha6 : L < a + 6) (hk : k < 32) (hN : N ≤ 512) (hT : TV (σ 0) (σ 3) N 5 (σ 8 (a % 6))) : KMi WX tX yX0_has cX0_has 4 (some .boolean) 1 [.int (nI (a)), .int (nI (k))] σ (fun r σ' => r = bI (khB (σ 0) (σ 2) (σ 8 (a % 6)) k) ∧ σ' = σ) := by
  refine KMi.ofZ (own := RX0) (by decide +kernel) rfl (fun _ => Nat.le_of_ble_eq_true rfl) ?_
  intro p l e s m args below meth c D h ad d A ls Q E w ret hl
  have hx := E.1
  have hb := E.2.1
  have hl : lv_has ls 4 [(0, .ref h), (1, .int (nI (a))), (2, .int (nI (k)))] := hl
  refine lv_aload_n hx hb dX0_has_0 rfl (lv_at hl 0 rfl) ?_
  refine lv_iload_n hx hb dX0_has_1 rfl (lv_at hl 1 rfl) ?_
  refine k_calli (ci := 0) (C := RX0) (T := TX0) (N := 21) (x_isKept_y σ a L hL hL2 ha ha6) E w q182 q184 qs11 q20 q185 rfl rfl 1 rfl (by decide +kernel) ⟨Nat.le_of_ble_eq_true rfl, Nat.le_of_ble_eq_true rfl⟩ hl.1 rfl (Nat.le_of_ble_eq_true rfl) dX0_has_2 ⟨Nat.zero_le _, Nat.zero_le _⟩ (fun r_2 σ_2 H locs hp_2 w => ?_)
  obtain ⟨e1, e2⟩ := hp_2
  rw [e2] at w
  refine g_eq (y := (nI (1))) (e1) ?_
  refine lv_if_eq (tgt := 18) hx hb dX0_has_5 (by decide) (fun hn => absurd hn (by decide)) (fun _ => ?_)
  refine lv_iload_n hx hb dX0_has_8 rfl (lv_at hl 2 rfl) ?_
  refine lv_if_lt (tgt := 18) hx hb dX0_has_9 (by decide) (fun hn => absurd hn (nI_pos (by omega))) (fun _ => ?_)
  refine lv_iload_n hx hb dX0_has_12 rfl (lv_at hl 2 rfl) ?_
  refine lv_bipush (v := (nI (31))) hx hb dX0_has_13 (by decide) ?_
  refine lv_icmp_le (tgt := 20) hx hb dX0_has_15 (by decide) (fun _ => ?_) (fun hn => absurd (nI_le (by omega) (by omega)) hn)
  refine lv_aload_n hx hb dX0_has_20 rfl (lv_at hl 0 rfl) ?_
  refine lv_aload_n hx hb dX0_has_21 rfl (lv_at hl 0 rfl) ?_
  refine x_get (v := .ref (ad 8)) E w 8 (by decide) q38 rfl dX0_has_22 ?_
  refine lv_iload_n hx hb dX0_has_25 rfl (lv_at hl 1 rfl) ?_
  refine lv_bipush (v := (nI (6))) hx hb dX0_has_26 (by decide) ?_
  refine n_irem (by omega) (by decide) (by decide) hx hb dX0_has_28 ?_
  refine g_sald (f := σ 8) E w 7 6 rfl rfl (by omega) (by decide) dX0_has_29 ?_
  refine lv_iload_n hx hb dX0_has_30 rfl (lv_at hl 2 rfl) ?_
  refine k_calli (ci := 0) (C := RX0) (T := TX0) (N := 21) (x_leafOf σ (σ 8 (a % 6)) k N hN hk hT) E w q130 q132 qs4 q20 q133 rfl rfl 2 rfl (by decide +kernel) ⟨Nat.le_of_ble_eq_true rfl, Nat.le_of_ble_eq_true rfl⟩ hl.1 rfl (Nat.le_of_ble_eq_true rfl) dX0_has_31 ⟨Nat.zero_le _, Nat.zero_le _⟩ (fun r_31 σ_31 H locs hp_31 w => ?_)
  obtain ⟨er2, e2⟩ := hp_31
  rw [e2] at w
  rcases lf_ok hN 5 _ hT k with g1 | ⟨q, hq, g1, -⟩
  · refine g_eq (y := (-1)) (er2.trans g1) ?_
    refine lv_istore_n (lv' := [(3, .int (-1)), (0, .ref h), (1, .int (nI (a))), (2, .int (nI (k)))]) hx hb dX0_has_34 rfl hl (by decide) rfl (fun ls hl => ?_)
    refine lv_iload_n hx hb dX0_has_35 rfl (lv_at hl 0 rfl) ?_
    refine lv_if_lt (tgt := 52) hx hb dX0_has_36 (by decide) (fun _ => ?_) (fun hn => absurd (by decide) hn)
    refine lv_iconst (v := (nI (0))) hx hb dX0_has_52 (by decide) ?_
    exact ret _ _ _ _ _ _ (rfl) (⟨by rw [khB_m1 g1]; rfl, rfl⟩) w dX0_has_53
  · refine g_eq (y := (nI (q))) (er2.trans g1) ?_
    refine lv_istore_n (lv' := [(3, .int (nI (q))), (0, .ref h), (1, .int (nI (a))), (2, .int (nI (k)))]) hx hb dX0_has_34 rfl hl (by decide) rfl (fun ls hl => ?_)
    refine lv_iload_n hx hb dX0_has_35 rfl (lv_at hl 0 rfl) ?_
    refine lv_if_lt (tgt := 52) hx hb dX0_has_36 (by decide) (fun hn => absurd hn (nI_pos (by omega))) (fun _ => ?_)
    refine lv_aload_n hx hb dX0_has_39 rfl (lv_at hl 1 rfl) ?_
    refine x_get (v := .ref (ad 2)) E w 2 (by decide) q32 rfl dX0_has_40 ?_
    refine lv_iload_n hx hb dX0_has_43 rfl (lv_at hl 0 rfl) ?_
    refine g_zald (f := σ 2) E w 3 2 rfl rfl (by omega) (by decide) dX0_has_44 ?_
    refine lv_if_eq (tgt := 52) hx hb dX0_has_45 (by decide) (fun c1 => ?_) (fun c1 => ?_)
    · refine lv_iconst (v := (nI (0))) hx hb dX0_has_52 (by decide) ?_
      exact ret _ _ _ _ _ _ (rfl) (⟨by rw [khB_0 (by omega) g1 c1]; rfl, rfl⟩) w dX0_has_53
    · refine lv_iconst (v := (nI (1))) hx hb dX0_has_48 (by decide) ?_
      refine lv_goto (tgt := 53) hx hb dX0_has_49 (by decide) ?_
      exact ret _ _ _ _ _ _ (rfl) (⟨by rw [khB_1 (by omega) g1 c1]; rfl, rfl⟩) w dX0_has_53
set_option maxHeartbeats 4000000 in
set_option maxRecDepth 100000 in
theorem x_at_nk (σ : ST) (x k : Int32) (L : Nat) (hL : σ 7 0 = nI L) (hL2 : L < 1000) (hk : ¬ ∃ a, x = nI a ∧ a ≤ L ∧ L < a + 6) : KMi WX tX yX0_at cX0_at 4 (some .int) 2 [.int (x), .int (k)] σ (fun r σ' => r = nI 0 ∧ σ' = σ) := by
  refine KMi.ofI (own := RX0) (by decide +kernel) rfl (fun _ => Nat.le_of_ble_eq_true rfl) ?_
  intro p l e s m args below meth c D h ad d A ls Q E w ret hl
  have hx := E.1
  have hb := E.2.1
  have hl : lv_has ls 4 [(0, .ref h), (1, .int (x)), (2, .int (k))] := hl
  refine lv_aload_n hx hb dX0_at_0 rfl (lv_at hl 0 rfl) ?_
  refine lv_iload_n hx hb dX0_at_1 rfl (lv_at hl 1 rfl) ?_
  refine lv_iload_n hx hb dX0_at_2 rfl (lv_at hl 2 rfl) ?_
  refine k_calli (ci := 0) (C := RX0) (T := TX0) (N := 21) (x_has_nk σ x k L hL hL2 hk) E w q190 q179 q180 q20 q181 rfl rfl 2 rfl (by decide +kernel) ⟨Nat.le_of_ble_eq_true rfl, Nat.le_of_ble_eq_true rfl⟩ hl.1 rfl (Nat.le_of_ble_eq_true rfl) dX0_at_3 ⟨Nat.zero_le _, Nat.zero_le _⟩ (fun r_3 σ_3 H locs hp_3 w => ?_)
  obtain ⟨e1, e2⟩ := hp_3
  rw [e2] at w
  refine g_eq (y := (nI (0))) (e1) ?_
  refine lv_if_ne (tgt := 11) hx hb dX0_at_6 (by decide) (fun hn => absurd hn (fun z => z nI_0)) (fun _ => ?_)
  refine lv_iconst (v := (nI (0))) hx hb dX0_at_9 (by decide) ?_
  exact ret _ _ _ _ _ _ (⟨rfl, rfl⟩) w dX0_at_10
set_option maxHeartbeats 4000000 in
set_option maxRecDepth 100000 in
theorem x_at_bk (σ : ST) (a : Nat) (k : Int32) (L : Nat) (hL : σ 7 0 = nI L) (hL2 : L < 1000) (ha : a ≤ L) (ha6 : L < a + 6) (hk : k < 0 ∨ nI 31 < k) : KMi WX tX yX0_at cX0_at 4 (some .int) 2 [.int (nI (a)), .int (k)] σ (fun r σ' => r = nI 0 ∧ σ' = σ) := by
  refine KMi.ofI (own := RX0) (by decide +kernel) rfl (fun _ => Nat.le_of_ble_eq_true rfl) ?_
  intro p l e s m args below meth c D h ad d A ls Q E w ret hl
  have hx := E.1
  have hb := E.2.1
  have hl : lv_has ls 4 [(0, .ref h), (1, .int (nI (a))), (2, .int (k))] := hl
  refine lv_aload_n hx hb dX0_at_0 rfl (lv_at hl 0 rfl) ?_
  refine lv_iload_n hx hb dX0_at_1 rfl (lv_at hl 1 rfl) ?_
  refine lv_iload_n hx hb dX0_at_2 rfl (lv_at hl 2 rfl) ?_
  refine k_calli (ci := 0) (C := RX0) (T := TX0) (N := 21) (x_has_bk σ a k L hL hL2 ha ha6 hk) E w q190 q179 q180 q20 q181 rfl rfl 2 rfl (by decide +kernel) ⟨Nat.le_of_ble_eq_true rfl, Nat.le_of_ble_eq_true rfl⟩ hl.1 rfl (Nat.le_of_ble_eq_true rfl) dX0_at_3 ⟨Nat.zero_le _, Nat.zero_le _⟩ (fun r_3 σ_3 H locs hp_3 w => ?_)
  obtain ⟨e1, e2⟩ := hp_3
  rw [e2] at w
  refine g_eq (y := (nI (0))) (e1) ?_
  refine lv_if_ne (tgt := 11) hx hb dX0_at_6 (by decide) (fun hn => absurd hn (fun z => z nI_0)) (fun _ => ?_)
  refine lv_iconst (v := (nI (0))) hx hb dX0_at_9 (by decide) ?_
  exact ret _ _ _ _ _ _ (⟨rfl, rfl⟩) w dX0_at_10
set_option maxHeartbeats 4000000 in
set_option maxRecDepth 100000 in
theorem x_at (σ : ST) (a k N : Nat) (L : Nat) (hL : σ 7 0 = nI L) (hL2 : L < 1000) (ha : a ≤ L) (ha6 : L < a + 6) (hk : k < 32) (hN : N ≤ 512) (hT : TV (σ 0) (σ 3) N 5 (σ 8 (a % 6))) : KMi WX tX yX0_at cX0_at 4 (some .int) 2 [.int (nI (a)), .int (nI (k))] σ (fun r σ' => r = (if khB (σ 0) (σ 2) (σ 8 (a % 6)) k then kvB (σ 0) (σ 1) (σ 8 (a % 6)) k else 0) ∧ σ' = σ) := by
  refine KMi.ofI (own := RX0) (by decide +kernel) rfl (fun _ => Nat.le_of_ble_eq_true rfl) ?_
  intro p l e s m args below meth c D h ad d A ls Q E w ret hl
  have hx := E.1
  have hb := E.2.1
  have hl : lv_has ls 4 [(0, .ref h), (1, .int (nI (a))), (2, .int (nI (k)))] := hl
  refine lv_aload_n hx hb dX0_at_0 rfl (lv_at hl 0 rfl) ?_
  refine lv_iload_n hx hb dX0_at_1 rfl (lv_at hl 1 rfl) ?_
  refine lv_iload_n hx hb dX0_at_2 rfl (lv_at hl 2 rfl) ?_
  refine k_calli (ci := 0) (C := RX0) (T := TX0) (N := 21) (x_has σ a k N L hL hL2 ha ha6 hk hN hT) E w q190 q179 q180 q20 q181 rfl rfl 2 rfl (by decide +kernel) ⟨Nat.le_of_ble_eq_true rfl, Nat.le_of_ble_eq_true rfl⟩ hl.1 rfl (Nat.le_of_ble_eq_true rfl) dX0_at_3 ⟨Nat.zero_le _, Nat.zero_le _⟩ (fun r_3 σ_3 H locs hp_3 w => ?_)
  obtain ⟨e1, e2⟩ := hp_3
  rw [e2] at w
  rcases (Bool.eq_false_or_eq_true (khB (σ 0) (σ 2) (σ 8 (a % 6)) k)) with hf | hf
  · refine g_eq (y := (nI (1))) (by rw [e1, hf]; rfl) ?_
    refine lv_if_ne (tgt := 11) hx hb dX0_at_6 (by decide) (fun _ => ?_) (fun hn => absurd hn (by decide))
    refine lv_aload_n hx hb dX0_at_11 rfl (lv_at hl 0 rfl) ?_
    refine lv_aload_n hx hb dX0_at_12 rfl (lv_at hl 0 rfl) ?_
    refine x_get (v := .ref (ad 8)) E w 8 (by decide) q38 rfl dX0_at_13 ?_
    refine lv_iload_n hx hb dX0_at_16 rfl (lv_at hl 1 rfl) ?_
    refine lv_bipush (v := (nI (6))) hx hb dX0_at_17 (by decide) ?_
    refine n_irem (by omega) (by decide) (by decide) hx hb dX0_at_19 ?_
    refine g_sald (f := σ 8) E w 7 6 rfl rfl (by omega) (by decide) dX0_at_20 ?_
    refine lv_iload_n hx hb dX0_at_21 rfl (lv_at hl 2 rfl) ?_
    refine k_calli (ci := 0) (C := RX0) (T := TX0) (N := 21) (x_leafOf σ (σ 8 (a % 6)) k N hN hk hT) E w q130 q132 qs4 q20 q133 rfl rfl 2 rfl (by decide +kernel) ⟨Nat.le_of_ble_eq_true rfl, Nat.le_of_ble_eq_true rfl⟩ hl.1 rfl (Nat.le_of_ble_eq_true rfl) dX0_at_22 ⟨Nat.zero_le _, Nat.zero_le _⟩ (fun r_22 σ_22 H locs hp_22 w => ?_)
    obtain ⟨er2, e3⟩ := hp_22
    rw [e3] at w
    rcases lf_ok hN 5 _ hT k with g1 | ⟨q, hq, g1, -⟩
    · exact absurd ((khB_m1 g1).symm.trans hf) (by decide)
    · refine g_eq (y := (nI (q))) (er2.trans g1) ?_
      refine lv_istore_n (lv' := [(3, .int (nI (q))), (0, .ref h), (1, .int (nI (a))), (2, .int (nI (k)))]) hx hb dX0_at_25 rfl hl (by decide) rfl (fun ls hl => ?_)
      refine lv_aload_n hx hb dX0_at_26 rfl (lv_at hl 1 rfl) ?_
      refine x_get (v := .ref (ad 1)) E w 1 (by decide) q31 rfl dX0_at_27 ?_
      refine lv_iload_n hx hb dX0_at_30 rfl (lv_at hl 0 rfl) ?_
      refine g_iald (f := σ 1) E w 2 1 rfl rfl (by omega) (by decide) dX0_at_31 ?_
      exact ret _ _ _ _ _ _ (⟨by rw [hf, if_pos rfl, kvB_nd (by omega) g1], rfl⟩) w dX0_at_32
  · refine g_eq (y := (nI (0))) (by rw [e1, hf]; rfl) ?_
    refine lv_if_ne (tgt := 11) hx hb dX0_at_6 (by decide) (fun hn => absurd hn (fun z => z nI_0)) (fun _ => ?_)
    refine lv_iconst (v := (nI (0))) hx hb dX0_at_9 (by decide) ?_
    exact ret _ _ _ _ _ _ (⟨by rw [hf]; rfl, rfl⟩) w dX0_at_10
set_option maxHeartbeats 4000000 in
set_option maxRecDepth 100000 in
theorem x_size_bad (σ : ST) (x : Int32) (L : Nat) (hL : σ 7 0 = nI L) (hL2 : L < 1000) (hbad : x < 0 ∨ nI L < x) : KMi WX tX yX0_size cX0_size 4 (some .int) 2 [.int (x)] σ (fun r σ' => r = -1 ∧ σ' = σ) := by
  refine KMi.ofI (own := RX0) (by decide +kernel) rfl (fun _ => Nat.le_of_ble_eq_true rfl) ?_
  intro p l e s m args below meth c D h ad d A ls Q E w ret hl
  have hx := E.1
  have hb := E.2.1
  have hl : lv_has ls 4 [(0, .ref h), (1, .int (x))] := hl
  refine lv_iload_n hx hb dX0_size_0 rfl (lv_at hl 1 rfl) ?_
  refine lv_if_lt (tgt := 12) hx hb dX0_size_1 (by decide) (fun c1 => ?_) (fun c1 => ?_)
  · refine lv_iconst (v := (-1)) hx hb dX0_size_12 (by decide) ?_
    exact ret _ _ _ _ _ _ (⟨rfl, rfl⟩) w dX0_size_13
  · refine lv_iload_n hx hb dX0_size_4 rfl (lv_at hl 1 rfl) ?_
    refine lv_aload_n hx hb dX0_size_5 rfl (lv_at hl 0 rfl) ?_
    refine x_get (v := .int (σ 7 0)) E w 7 (by decide) q37 rfl dX0_size_6 ?_
    refine g_eq (y := (nI (L))) (hL) ?_
    refine lv_icmp_le (tgt := 14) hx hb dX0_size_9 (by decide) (fun hn => absurd hn ((fa_of_lt (hbad.resolve_left c1)).2.1)) (fun _ => ?_)
    refine lv_iconst (v := (-1)) hx hb dX0_size_12 (by decide) ?_
    exact ret _ _ _ _ _ _ (⟨rfl, rfl⟩) w dX0_size_13
set_option maxHeartbeats 4000000 in
set_option maxRecDepth 100000 in
theorem x_size_gone (σ : ST) (a : Nat) (L : Nat) (hL : σ 7 0 = nI L) (hL2 : L < 1000) (ha : a + 6 ≤ L) : KMi WX tX yX0_size cX0_size 4 (some .int) 2 [.int (nI (a))] σ (fun r σ' => r = -6 ∧ σ' = σ) := by
  refine KMi.ofI (own := RX0) (by decide +kernel) rfl (fun _ => Nat.le_of_ble_eq_true rfl) ?_
  intro p l e s m args below meth c D h ad d A ls Q E w ret hl
  have hx := E.1
  have hb := E.2.1
  have hl : lv_has ls 4 [(0, .ref h), (1, .int (nI (a)))] := hl
  have hk : ¬ ∃ b, nI a = nI b ∧ b ≤ L ∧ L < b + 6 := fun ⟨b, z1, z2, z3⟩ => by have z4 := nI_inj (by omega) (by omega) z1; omega
  refine lv_iload_n hx hb dX0_size_0 rfl (lv_at hl 1 rfl) ?_
  refine lv_if_lt (tgt := 12) hx hb dX0_size_1 (by decide) (fun hn => absurd hn (nI_pos (by omega))) (fun _ => ?_)
  refine lv_iload_n hx hb dX0_size_4 rfl (lv_at hl 1 rfl) ?_
  refine lv_aload_n hx hb dX0_size_5 rfl (lv_at hl 0 rfl) ?_
  refine x_get (v := .int (σ 7 0)) E w 7 (by decide) q37 rfl dX0_size_6 ?_
  refine g_eq (y := (nI (L))) (hL) ?_
  refine lv_icmp_le (tgt := 14) hx hb dX0_size_9 (by decide) (fun _ => ?_) (fun hn => absurd (nI_le (by omega) (by omega)) hn)
  refine lv_aload_n hx hb dX0_size_14 rfl (lv_at hl 0 rfl) ?_
  refine lv_iload_n hx hb dX0_size_15 rfl (lv_at hl 1 rfl) ?_
  refine k_calli (ci := 0) (C := RX0) (T := TX0) (N := 21) (x_isKept_n σ (nI a) L hL hL2 hk) E w q182 q184 qs11 q20 q185 rfl rfl 1 rfl (by decide +kernel) ⟨Nat.le_of_ble_eq_true rfl, Nat.le_of_ble_eq_true rfl⟩ hl.1 rfl (Nat.le_of_ble_eq_true rfl) dX0_size_16 ⟨Nat.zero_le _, Nat.zero_le _⟩ (fun r_16 σ_16 H locs hp_16 w => ?_)
  obtain ⟨e1, e2⟩ := hp_16
  rw [e2] at w
  refine g_eq (y := (nI (0))) (e1) ?_
  refine lv_if_ne (tgt := 25) hx hb dX0_size_19 (by decide) (fun hn => absurd hn (fun z => z nI_0)) (fun _ => ?_)
  refine lv_bipush (v := (-6)) hx hb dX0_size_22 (by decide) ?_
  exact ret _ _ _ _ _ _ (⟨rfl, rfl⟩) w dX0_size_24
set_option maxHeartbeats 4000000 in
set_option maxRecDepth 100000 in
theorem x_size (σ : ST) (a N : Nat) (L : Nat) (hL : σ 7 0 = nI L) (hL2 : L < 1000) (ha : a ≤ L) (ha6 : L < a + 6) (hN : N ≤ 512) (hT : TV (σ 0) (σ 3) N 5 (σ 8 (a % 6))) : KMi WX tX yX0_size cX0_size 4 (some .int) 2 [.int (nI (a))] σ (fun r σ' => r = nI (fb_ct (khB (σ 0) (σ 2) (σ 8 (a % 6))) 32) ∧ σ' = σ) := by
  refine KMi.ofI (own := RX0) (by decide +kernel) rfl (fun _ => Nat.le_of_ble_eq_true rfl) ?_
  intro p l e s m args below meth c D h ad d A ls Q E w ret hl
  have hx := E.1
  have hb := E.2.1
  have hl : lv_has ls 4 [(0, .ref h), (1, .int (nI (a)))] := hl
  refine lv_iload_n hx hb dX0_size_0 rfl (lv_at hl 1 rfl) ?_
  refine lv_if_lt (tgt := 12) hx hb dX0_size_1 (by decide) (fun hn => absurd hn (nI_pos (by omega))) (fun _ => ?_)
  refine lv_iload_n hx hb dX0_size_4 rfl (lv_at hl 1 rfl) ?_
  refine lv_aload_n hx hb dX0_size_5 rfl (lv_at hl 0 rfl) ?_
  refine x_get (v := .int (σ 7 0)) E w 7 (by decide) q37 rfl dX0_size_6 ?_
  refine g_eq (y := (nI (L))) (hL) ?_
  refine lv_icmp_le (tgt := 14) hx hb dX0_size_9 (by decide) (fun _ => ?_) (fun hn => absurd (nI_le (by omega) (by omega)) hn)
  refine lv_aload_n hx hb dX0_size_14 rfl (lv_at hl 0 rfl) ?_
  refine lv_iload_n hx hb dX0_size_15 rfl (lv_at hl 1 rfl) ?_
  refine k_calli (ci := 0) (C := RX0) (T := TX0) (N := 21) (x_isKept_y σ a L hL hL2 ha ha6) E w q182 q184 qs11 q20 q185 rfl rfl 1 rfl (by decide +kernel) ⟨Nat.le_of_ble_eq_true rfl, Nat.le_of_ble_eq_true rfl⟩ hl.1 rfl (Nat.le_of_ble_eq_true rfl) dX0_size_16 ⟨Nat.zero_le _, Nat.zero_le _⟩ (fun r_16 σ_16 H locs hp_16 w => ?_)
  obtain ⟨e1, e2⟩ := hp_16
  rw [e2] at w
  refine g_eq (y := (nI (1))) (e1) ?_
  refine lv_if_ne (tgt := 25) hx hb dX0_size_19 (by decide) (fun _ => ?_) (fun hn => absurd hn (by decide))
  refine lv_iconst (v := (nI (0))) hx hb dX0_size_25 (by decide) ?_
  refine lv_istore_n (lv' := [(2, .int (nI (0))), (0, .ref h), (1, .int (nI (a)))]) hx hb dX0_size_26 rfl hl (by decide) rfl (fun ls hl => ?_)
  refine lv_iconst (v := (nI (0))) hx hb dX0_size_27 (by decide) ?_
  refine lv_istore_n (lv' := [(3, .int (nI (0))), (2, .int (nI (0))), (0, .ref h), (1, .int (nI (a)))]) hx hb dX0_size_28 rfl hl (by decide) rfl (fun ls hl => ?_)
  have loop : ∀ (u q : Nat), q + u = 32 → ∀ (H : Heap) (locs : List Loc) (ls : Array Slot), GW D A s.heap s (tX d) (WX h ad d σ) H locs → lv_has ls 4 [(3, .int (nI (q))), (2, .int (nI (fb_ct (khB (σ 0) (σ 2) (σ 8 (a % 6))) q))), (0, .ref h), (1, .int (nI (a)))] → W p l e (rm 2) s m args below meth c H locs 0 0 Q (F0 m 29 ls []) := by
    intro u
    induction u with
    | zero =>
      intro q hq H locs ls w hl
      refine lv_iload_n hx hb dX0_size_29 rfl (lv_at hl 0 rfl) ?_
      refine lv_bipush (v := (nI (32))) hx hb dX0_size_30 (by decide) ?_
      refine lv_icmp_ge (tgt := 53) hx hb dX0_size_32 (by decide) (fun _ => ?_) (fun hn => absurd (nI_le (by omega) (by omega)) hn)
      refine lv_iload_n hx hb dX0_size_53 rfl (lv_at hl 1 rfl) ?_
      exact ret _ _ _ _ _ _ (⟨by rw [show q = 32 by omega], rfl⟩) w dX0_size_54
    | succ u ih =>
      intro q hq H locs ls w hl
      refine lv_iload_n hx hb dX0_size_29 rfl (lv_at hl 0 rfl) ?_
      refine lv_bipush (v := (nI (32))) hx hb dX0_size_30 (by decide) ?_
      refine lv_icmp_ge (tgt := 53) hx hb dX0_size_32 (by decide) (fun hn => absurd hn (nI_ge (by omega) (by omega))) (fun _ => ?_)
      refine lv_aload_n hx hb dX0_size_35 rfl (lv_at hl 2 rfl) ?_
      refine lv_iload_n hx hb dX0_size_36 rfl (lv_at hl 3 rfl) ?_
      refine lv_iload_n hx hb dX0_size_37 rfl (lv_at hl 0 rfl) ?_
      refine k_calli (ci := 0) (C := RX0) (T := TX0) (N := 21) (x_has σ a q N L hL hL2 ha ha6 (by omega) hN hT) E w q190 q179 q180 q20 q181 rfl rfl 2 rfl (by decide +kernel) ⟨Nat.le_of_ble_eq_true rfl, Nat.le_of_ble_eq_true rfl⟩ hl.1 rfl (Nat.le_of_ble_eq_true rfl) dX0_size_38 ⟨Nat.zero_le _, Nat.zero_le _⟩ (fun r_38 σ_38 H locs hp_38 w => ?_)
      obtain ⟨e1, e2⟩ := hp_38
      rw [e2] at w
      refine g_eq (y := (bI ((khB (σ 0) (σ 2) (σ 8 (a % 6))) q))) (e1) ?_
      refine lv_if_eq (tgt := 47) hx hb dX0_size_41 (by decide) (fun c1 => ?_) (fun c1 => ?_)
      · refine lv_iinc (v := (nI (q + 1))) (lv' := [(3, .int (nI (q + 1))), (2, .int (nI (fb_ct (khB (σ 0) (σ 2) (σ 8 (a % 6))) q))), (0, .ref h), (1, .int (nI (a)))]) hx hb dX0_size_47 hl (k := 0) rfl (nI_1 (q)) (by decide) rfl (fun ls hl => ?_)
        refine lv_goto (tgt := 29) hx hb dX0_size_50 (by decide) ?_
        have hc : fb_ct (khB (σ 0) (σ 2) (σ 8 (a % 6))) (q + 1) = fb_ct (khB (σ 0) (σ 2) (σ 8 (a % 6))) q := by rw [fb_ct_succ, bI_eq0.mp c1]; rfl
        rw [← hc] at hl
        exact ih (q + 1) (by omega) H locs ls w hl
      · refine lv_iinc (v := (nI (fb_ct (khB (σ 0) (σ 2) (σ 8 (a % 6))) q + 1))) (lv' := [(2, .int (nI (fb_ct (khB (σ 0) (σ 2) (σ 8 (a % 6))) q + 1))), (3, .int (nI (q))), (0, .ref h), (1, .int (nI (a)))]) hx hb dX0_size_44 hl (k := 1) rfl (nI_1 (fb_ct (khB (σ 0) (σ 2) (σ 8 (a % 6))) q)) (by decide) rfl (fun ls hl => ?_)
        refine lv_iinc (v := (nI (q + 1))) (lv' := [(3, .int (nI (q + 1))), (2, .int (nI (fb_ct (khB (σ 0) (σ 2) (σ 8 (a % 6))) q + 1))), (0, .ref h), (1, .int (nI (a)))]) hx hb dX0_size_47 hl (k := 1) rfl (nI_1 (q)) (by decide) rfl (fun ls hl => ?_)
        refine lv_goto (tgt := 29) hx hb dX0_size_50 (by decide) ?_
        have hc : fb_ct (khB (σ 0) (σ 2) (σ 8 (a % 6))) (q + 1) = fb_ct (khB (σ 0) (σ 2) (σ 8 (a % 6))) q + 1 := by rw [fb_ct_succ, bI_ne0 c1]; rfl
        rw [← hc] at hl
        exact ih (q + 1) (by omega) H locs ls w (lv_sub hl [0, 1, 2, 3] rfl)
  exact loop 32 0 (by omega) H locs ls w hl
set_option maxHeartbeats 4000000 in
set_option maxRecDepth 100000 in
theorem x_read_bad (σ : ST) (t k : Int32) (hbad : t < 0 ∨ nI 3 < t ∨ k < 0 ∨ nI 31 < k ∨ k < k) : KMi WX tX yX0_read cX0_read 4 (some .int) 2 [.int (t), .int (k)] σ (fun r σ' => r = -1 ∧ σ' = σ) := by
  refine KMi.ofI (own := RX0) (by decide +kernel) rfl (fun _ => Nat.le_of_ble_eq_true rfl) ?_
  intro p l e s m args below meth c D h ad d A ls Q E w ret hl
  have hx := E.1
  have hb := E.2.1
  have hl : lv_has ls 4 [(0, .ref h), (1, .int (t)), (2, .int (k))] := hl
  refine lv_aload_n hx hb dX0_read_0 rfl (lv_at hl 0 rfl) ?_
  refine lv_iload_n hx hb dX0_read_1 rfl (lv_at hl 1 rfl) ?_
  refine lv_iload_n hx hb dX0_read_2 rfl (lv_at hl 2 rfl) ?_
  refine lv_iload_n hx hb dX0_read_3 rfl (lv_at hl 2 rfl) ?_
  refine k_calli (ci := 0) (C := RX0) (T := TX0) (N := 21) (x_check_bad σ t k k hbad) E w q110 q112 qs1 q20 q113 rfl rfl 3 rfl (by decide +kernel) ⟨Nat.le_of_ble_eq_true rfl, Nat.le_of_ble_eq_true rfl⟩ hl.1 rfl (Nat.le_of_ble_eq_true rfl) dX0_read_4 ⟨Nat.zero_le _, Nat.zero_le _⟩ (fun r_4 σ_4 H locs hp_4 w => ?_)
  obtain ⟨e1, e2⟩ := hp_4
  rw [e2] at w
  refine g_eq (y := (-1)) (e1) ?_
  refine lv_istore_n (lv' := [(3, .int (-1)), (0, .ref h), (1, .int (t)), (2, .int (k))]) hx hb dX0_read_7 rfl hl (by decide) rfl (fun ls hl => ?_)
  refine lv_iload_n hx hb dX0_read_8 rfl (lv_at hl 0 rfl) ?_
  refine lv_if_eq (tgt := 14) hx hb dX0_read_9 (by decide) (fun hn => absurd hn (by decide)) (fun _ => ?_)
  refine lv_iload_n hx hb dX0_read_12 rfl (lv_at hl 0 rfl) ?_
  exact ret _ _ _ _ _ _ (⟨rfl, rfl⟩) w dX0_read_13
set_option maxHeartbeats 4000000 in
set_option maxRecDepth 100000 in
theorem x_read_cl (σ : ST) (t k : Nat) (ht : t < 4) (hk : k < 32) (ho : σ 9 t = 0) : KMi WX tX yX0_read cX0_read 4 (some .int) 2 [.int (nI (t)), .int (nI (k))] σ (fun r σ' => r = -3 ∧ σ' = σ) := by
  refine KMi.ofI (own := RX0) (by decide +kernel) rfl (fun _ => Nat.le_of_ble_eq_true rfl) ?_
  intro p l e s m args below meth c D h ad d A ls Q E w ret hl
  have hx := E.1
  have hb := E.2.1
  have hl : lv_has ls 4 [(0, .ref h), (1, .int (nI (t))), (2, .int (nI (k)))] := hl
  refine lv_aload_n hx hb dX0_read_0 rfl (lv_at hl 0 rfl) ?_
  refine lv_iload_n hx hb dX0_read_1 rfl (lv_at hl 1 rfl) ?_
  refine lv_iload_n hx hb dX0_read_2 rfl (lv_at hl 2 rfl) ?_
  refine lv_iload_n hx hb dX0_read_3 rfl (lv_at hl 2 rfl) ?_
  refine k_calli (ci := 0) (C := RX0) (T := TX0) (N := 21) (x_check_ok σ t k k ht (Nat.le_refl _) hk) E w q110 q112 qs1 q20 q113 rfl rfl 3 rfl (by decide +kernel) ⟨Nat.le_of_ble_eq_true rfl, Nat.le_of_ble_eq_true rfl⟩ hl.1 rfl (Nat.le_of_ble_eq_true rfl) dX0_read_4 ⟨Nat.zero_le _, Nat.zero_le _⟩ (fun r_4 σ_4 H locs hp_4 w => ?_)
  obtain ⟨z1, z2, e2⟩ := hp_4
  rw [e2] at w
  have e1 := z1 ho
  refine g_eq (y := (-3)) (e1) ?_
  refine lv_istore_n (lv' := [(3, .int (-3)), (0, .ref h), (1, .int (nI (t))), (2, .int (nI (k)))]) hx hb dX0_read_7 rfl hl (by decide) rfl (fun ls hl => ?_)
  refine lv_iload_n hx hb dX0_read_8 rfl (lv_at hl 0 rfl) ?_
  refine lv_if_eq (tgt := 14) hx hb dX0_read_9 (by decide) (fun hn => absurd hn (by decide)) (fun _ => ?_)
  refine lv_iload_n hx hb dX0_read_12 rfl (lv_at hl 0 rfl) ?_
  exact ret _ _ _ _ _ _ (⟨rfl, rfl⟩) w dX0_read_13
set_option maxHeartbeats 4000000 in
set_option maxRecDepth 100000 in
theorem x_read (σ : ST) (t k v N : Nat) (f : Nat → Bool) (g : Nat → Int32) (ht : t < 4) (hk : k < 32) (hw : σ 13 t = nI v) (hw6 : v ≤ 6) (hN : N ≤ 512) (hT : TV (σ 0) (σ 3) N 5 (σ 11 t)) (hV : VW σ t v f g) (ho : ¬ σ 9 t = 0) : KMi WX tX yX0_read cX0_read 4 (some .int) 2 [.int (nI (t)), .int (nI (k))] σ (fun r σ' => r = bI (f k) ∧ σ' = su σ 12 t (σ 12 t ||| (nI 1 <<< (nI k &&& 31)))) := by
  refine KMi.ofI (own := RX0) (by decide +kernel) rfl (fun _ => Nat.le_of_ble_eq_true rfl) ?_
  intro p l e s m args below meth c D h ad d A ls Q E w ret hl
  have hx := E.1
  have hb := E.2.1
  have hl : lv_has ls 4 [(0, .ref h), (1, .int (nI (t))), (2, .int (nI (k)))] := hl
  refine lv_aload_n hx hb dX0_read_0 rfl (lv_at hl 0 rfl) ?_
  refine lv_iload_n hx hb dX0_read_1 rfl (lv_at hl 1 rfl) ?_
  refine lv_iload_n hx hb dX0_read_2 rfl (lv_at hl 2 rfl) ?_
  refine lv_iload_n hx hb dX0_read_3 rfl (lv_at hl 2 rfl) ?_
  refine k_calli (ci := 0) (C := RX0) (T := TX0) (N := 21) (x_check_ok σ t k k ht (Nat.le_refl _) hk) E w q110 q112 qs1 q20 q113 rfl rfl 3 rfl (by decide +kernel) ⟨Nat.le_of_ble_eq_true rfl, Nat.le_of_ble_eq_true rfl⟩ hl.1 rfl (Nat.le_of_ble_eq_true rfl) dX0_read_4 ⟨Nat.zero_le _, Nat.zero_le _⟩ (fun r_4 σ_4 H locs hp_4 w => ?_)
  obtain ⟨z1, z2, e2⟩ := hp_4
  rw [e2] at w
  have e1 := z2 ho
  refine g_eq (y := (nI (0))) (e1) ?_
  refine lv_istore_n (lv' := [(3, .int (nI (0))), (0, .ref h), (1, .int (nI (t))), (2, .int (nI (k)))]) hx hb dX0_read_7 rfl hl (by decide) rfl (fun ls hl => ?_)
  refine lv_iload_n hx hb dX0_read_8 rfl (lv_at hl 0 rfl) ?_
  refine lv_if_eq (tgt := 14) hx hb dX0_read_9 (by decide) (fun _ => ?_) (fun hn => absurd (nI_0) hn)
  refine lv_aload_n hx hb dX0_read_14 rfl (lv_at hl 1 rfl) ?_
  refine x_get (v := .ref (ad 12)) E w 12 (by decide) q42 rfl dX0_read_15 ?_
  refine lv_iload_n hx hb dX0_read_18 rfl (lv_at hl 2 rfl) ?_
  refine lv_dup2_11 hx hb dX0_read_19 rfl rfl ?_
  refine g_iald (f := σ 12) E w 11 10 rfl rfl (by omega) (by decide) dX0_read_20 ?_
  refine lv_iconst (v := (nI (1))) hx hb dX0_read_21 (by decide) ?_
  refine lv_iload_n hx hb dX0_read_22 rfl (lv_at hl 3 rfl) ?_
  refine lv_ishl hx hb dX0_read_23 ?_
  refine lv_ior hx hb dX0_read_24 ?_
  refine g_iast (f := σ 12) (ws' := WX h ad d (su σ 12 (t) (σ 12 t ||| (nI 1 <<< (nI k &&& 31))))) E w 11 10 rfl rfl (by omega) (by decide) rfl dX0_read_25 (fun H locs w => ?_)
  refine lv_aload_n hx hb dX0_read_26 rfl (lv_at hl 1 rfl) ?_
  refine lv_iload_n hx hb dX0_read_27 rfl (lv_at hl 2 rfl) ?_
  refine lv_iload_n hx hb dX0_read_28 rfl (lv_at hl 3 rfl) ?_
  refine k_calli (ci := 0) (C := RX0) (T := TX0) (N := 21) (x_inView (su σ 12 t (σ 12 t ||| (nI 1 <<< (nI k &&& 31)))) t k v N f g ht hk hw hw6 hN hT hV) E w q126 q128 qs3 q20 q129 rfl rfl 2 rfl (by decide +kernel) ⟨Nat.le_of_ble_eq_true rfl, Nat.le_of_ble_eq_true rfl⟩ hl.1 rfl (Nat.le_of_ble_eq_true rfl) dX0_read_29 ⟨Nat.zero_le _, Nat.zero_le _⟩ (fun r_29 σ_29 H locs hp_29 w => ?_)
  obtain ⟨e1, e2⟩ := hp_29
  rw [e2] at w
  refine g_eq (y := (bI (f k))) (e1) ?_
  refine lv_if_eq (tgt := 39) hx hb dX0_read_32 (by decide) (fun c1 => ?_) (fun c1 => ?_)
  · refine lv_iconst (v := (nI (0))) hx hb dX0_read_39 (by decide) ?_
    exact ret _ _ _ _ _ _ (⟨by rw [bI_eq0.mp c1]; rfl, rfl⟩) w dX0_read_40
  · refine lv_iconst (v := (nI (1))) hx hb dX0_read_35 (by decide) ?_
    refine lv_goto (tgt := 40) hx hb dX0_read_36 (by decide) ?_
    exact ret _ _ _ _ _ _ (⟨by rw [bI_ne0 c1]; rfl, rfl⟩) w dX0_read_40
set_option maxHeartbeats 4000000 in
set_option maxRecDepth 100000 in
theorem x_countRange_bad (σ : ST) (t a b : Int32) (hbad : t < 0 ∨ nI 3 < t ∨ a < 0 ∨ nI 31 < b ∨ b < a) : KMi WX tX yX0_countRange cX0_countRange 7 (some .int) 2 [.int (t), .int (a), .int (b)] σ (fun r σ' => r = -1 ∧ σ' = σ) := by
  refine KMi.ofI (own := RX0) (by decide +kernel) rfl (fun _ => Nat.le_of_ble_eq_true rfl) ?_
  intro p l e s m args below meth c D h ad d A ls Q E w ret hl
  have hx := E.1
  have hb := E.2.1
  have hl : lv_has ls 7 [(0, .ref h), (1, .int (t)), (2, .int (a)), (3, .int (b))] := hl
  refine lv_aload_n hx hb dX0_countRange_0 rfl (lv_at hl 0 rfl) ?_
  refine lv_iload_n hx hb dX0_countRange_1 rfl (lv_at hl 1 rfl) ?_
  refine lv_iload_n hx hb dX0_countRange_2 rfl (lv_at hl 2 rfl) ?_
  refine lv_iload_n hx hb dX0_countRange_3 rfl (lv_at hl 3 rfl) ?_
  refine k_calli (ci := 0) (C := RX0) (T := TX0) (N := 21) (x_check_bad σ t a b hbad) E w q110 q112 qs1 q20 q113 rfl rfl 3 rfl (by decide +kernel) ⟨Nat.le_of_ble_eq_true rfl, Nat.le_of_ble_eq_true rfl⟩ hl.1 rfl (Nat.le_of_ble_eq_true rfl) dX0_countRange_4 ⟨Nat.zero_le _, Nat.zero_le _⟩ (fun r_4 σ_4 H locs hp_4 w => ?_)
  obtain ⟨e1, e2⟩ := hp_4
  rw [e2] at w
  refine g_eq (y := (-1)) (e1) ?_
  refine lv_istore (lv' := [(4, .int (-1)), (0, .ref h), (1, .int (t)), (2, .int (a)), (3, .int (b))]) hx hb dX0_countRange_7 hl (by decide) rfl (fun ls hl => ?_)
  refine lv_iload hx hb dX0_countRange_9 (lv_at hl 0 rfl) ?_
  refine lv_if_eq (tgt := 17) hx hb dX0_countRange_11 (by decide) (fun hn => absurd hn (by decide)) (fun _ => ?_)
  refine lv_iload hx hb dX0_countRange_14 (lv_at hl 0 rfl) ?_
  exact ret _ _ _ _ _ _ (⟨rfl, rfl⟩) w dX0_countRange_16
set_option maxHeartbeats 4000000 in
set_option maxRecDepth 100000 in
theorem x_countRange_cl (σ : ST) (t a b : Nat) (ht : t < 4) (hab : a ≤ b) (hb32 : b < 32) (ho : σ 9 t = 0) : KMi WX tX yX0_countRange cX0_countRange 7 (some .int) 2 [.int (nI (t)), .int (nI (a)), .int (nI (b))] σ (fun r σ' => r = -3 ∧ σ' = σ) := by
  refine KMi.ofI (own := RX0) (by decide +kernel) rfl (fun _ => Nat.le_of_ble_eq_true rfl) ?_
  intro p l e s m args below meth c D h ad d A ls Q E w ret hl
  have hx := E.1
  have hb := E.2.1
  have hl : lv_has ls 7 [(0, .ref h), (1, .int (nI (t))), (2, .int (nI (a))), (3, .int (nI (b)))] := hl
  refine lv_aload_n hx hb dX0_countRange_0 rfl (lv_at hl 0 rfl) ?_
  refine lv_iload_n hx hb dX0_countRange_1 rfl (lv_at hl 1 rfl) ?_
  refine lv_iload_n hx hb dX0_countRange_2 rfl (lv_at hl 2 rfl) ?_
  refine lv_iload_n hx hb dX0_countRange_3 rfl (lv_at hl 3 rfl) ?_
  refine k_calli (ci := 0) (C := RX0) (T := TX0) (N := 21) (x_check_ok σ t a b ht hab hb32) E w q110 q112 qs1 q20 q113 rfl rfl 3 rfl (by decide +kernel) ⟨Nat.le_of_ble_eq_true rfl, Nat.le_of_ble_eq_true rfl⟩ hl.1 rfl (Nat.le_of_ble_eq_true rfl) dX0_countRange_4 ⟨Nat.zero_le _, Nat.zero_le _⟩ (fun r_4 σ_4 H locs hp_4 w => ?_)
  obtain ⟨z1, z2, e2⟩ := hp_4
  rw [e2] at w
  have e1 := z1 ho
  refine g_eq (y := (-3)) (e1) ?_
  refine lv_istore (lv' := [(4, .int (-3)), (0, .ref h), (1, .int (nI (t))), (2, .int (nI (a))), (3, .int (nI (b)))]) hx hb dX0_countRange_7 hl (by decide) rfl (fun ls hl => ?_)
  refine lv_iload hx hb dX0_countRange_9 (lv_at hl 0 rfl) ?_
  refine lv_if_eq (tgt := 17) hx hb dX0_countRange_11 (by decide) (fun hn => absurd hn (by decide)) (fun _ => ?_)
  refine lv_iload hx hb dX0_countRange_14 (lv_at hl 0 rfl) ?_
  exact ret _ _ _ _ _ _ (⟨rfl, rfl⟩) w dX0_countRange_16
set_option maxHeartbeats 4000000 in
set_option maxRecDepth 100000 in
theorem x_countRange (σ : ST) (t a b v N : Nat) (f : Nat → Bool) (g : Nat → Int32) (ht : t < 4) (hab : a ≤ b) (hb32 : b < 32) (hw : σ 13 t = nI v) (hw6 : v ≤ 6) (hN : N ≤ 512) (hT : TV (σ 0) (σ 3) N 5 (σ 11 t)) (hV : VW σ t v f g) (ho : ¬ σ 9 t = 0) : KMi WX tX yX0_countRange cX0_countRange 7 (some .int) 2 [.int (nI (t)), .int (nI (a)), .int (nI (b))] σ (fun r σ' => r = nI (fb_ct (fun j => f (a + j)) (b + 1 - a)) ∧ σ' = su σ 12 t (orr (σ 12 t) a (b + 1 - a))) := by
  refine KMi.ofI (own := RX0) (by decide +kernel) rfl (fun _ => Nat.le_of_ble_eq_true rfl) ?_
  intro p l e s m args below meth c D h ad d A ls Q E w ret hl
  have hx := E.1
  have hb := E.2.1
  have hl : lv_has ls 7 [(0, .ref h), (1, .int (nI (t))), (2, .int (nI (a))), (3, .int (nI (b)))] := hl
  refine lv_aload_n hx hb dX0_countRange_0 rfl (lv_at hl 0 rfl) ?_
  refine lv_iload_n hx hb dX0_countRange_1 rfl (lv_at hl 1 rfl) ?_
  refine lv_iload_n hx hb dX0_countRange_2 rfl (lv_at hl 2 rfl) ?_
  refine lv_iload_n hx hb dX0_countRange_3 rfl (lv_at hl 3 rfl) ?_
  refine k_calli (ci := 0) (C := RX0) (T := TX0) (N := 21) (x_check_ok σ t a b ht hab hb32) E w q110 q112 qs1 q20 q113 rfl rfl 3 rfl (by decide +kernel) ⟨Nat.le_of_ble_eq_true rfl, Nat.le_of_ble_eq_true rfl⟩ hl.1 rfl (Nat.le_of_ble_eq_true rfl) dX0_countRange_4 ⟨Nat.zero_le _, Nat.zero_le _⟩ (fun r_4 σ_4 H locs hp_4 w => ?_)
  obtain ⟨z1, z2, e2⟩ := hp_4
  rw [e2] at w
  have e1 := z2 ho
  refine g_eq (y := (nI (0))) (e1) ?_
  refine lv_istore (lv' := [(4, .int (nI (0))), (0, .ref h), (1, .int (nI (t))), (2, .int (nI (a))), (3, .int (nI (b)))]) hx hb dX0_countRange_7 hl (by decide) rfl (fun ls hl => ?_)
  refine lv_iload hx hb dX0_countRange_9 (lv_at hl 0 rfl) ?_
  refine lv_if_eq (tgt := 17) hx hb dX0_countRange_11 (by decide) (fun _ => ?_) (fun hn => absurd (nI_0) hn)
  refine lv_iconst (v := (nI (0))) hx hb dX0_countRange_17 (by decide) ?_
  refine lv_istore (lv' := [(5, .int (nI (0))), (4, .int (nI (0))), (0, .ref h), (1, .int (nI (t))), (2, .int (nI (a))), (3, .int (nI (b)))]) hx hb dX0_countRange_18 hl (by decide) rfl (fun ls hl => ?_)
  refine lv_iload_n hx hb dX0_countRange_20 rfl (lv_at hl 4 rfl) ?_
  refine lv_istore (lv' := [(6, .int (nI (a))), (5, .int (nI (0))), (4, .int (nI (0))), (0, .ref h), (1, .int (nI (t))), (2, .int (nI (a))), (3, .int (nI (b)))]) hx hb dX0_countRange_21 hl (by decide) rfl (fun ls hl => ?_)
  have loop : ∀ (u q : Nat), q + u = b + 1 - a → ∀ (H : Heap) (locs : List Loc) (ls : Array Slot), GW D A s.heap s (tX d) (WX h ad d (su σ 12 (t) (orr (σ 12 t) a q))) H locs → lv_has ls 7 [(6, .int (nI (a + q))), (5, .int (nI (fb_ct (fun j => f (a + j)) q))), (4, .int (nI (0))), (0, .ref h), (1, .int (nI (t))), (2, .int (nI (a))), (3, .int (nI (b)))] → W p l e (rm 2) s m args below meth c H locs 0 0 Q (F0 m 23 ls []) := by
    intro u
    induction u with
    | zero =>
      intro q hq H locs ls w hl
      refine lv_iload hx hb dX0_countRange_23 (lv_at hl 0 rfl) ?_
      refine lv_iload_n hx hb dX0_countRange_25 rfl (lv_at hl 6 rfl) ?_
      refine lv_icmp_gt (tgt := 61) hx hb dX0_countRange_26 (by decide) (fun _ => ?_) (fun hn => absurd (nI_lt (by omega) (by omega)) hn)
      refine lv_iload hx hb dX0_countRange_61 (lv_at hl 1 rfl) ?_
      exact ret _ _ _ _ _ _ (⟨by rw [show q = b + 1 - a by omega], by rw [show q = b + 1 - a by omega]⟩) w dX0_countRange_63
    | succ u ih =>
      intro q hq H locs ls w hl
      refine lv_iload hx hb dX0_countRange_23 (lv_at hl 0 rfl) ?_
      refine lv_iload_n hx hb dX0_countRange_25 rfl (lv_at hl 6 rfl) ?_
      refine lv_icmp_gt (tgt := 61) hx hb dX0_countRange_26 (by decide) (fun hn => absurd hn (nI_nlt (by omega) (by omega))) (fun _ => ?_)
      refine lv_aload_n hx hb dX0_countRange_29 rfl (lv_at hl 3 rfl) ?_
      refine x_get (v := .ref (ad 12)) E w 12 (by decide) q42 rfl dX0_countRange_30 ?_
      refine lv_iload_n hx hb dX0_countRange_33 rfl (lv_at hl 4 rfl) ?_
      refine lv_dup2_11 hx hb dX0_countRange_34 rfl rfl ?_
      refine g_iald (f := upd (σ 12) (t) (orr (σ 12 t) a q)) E w 11 10 rfl rfl (by omega) (by decide) dX0_countRange_35 ?_
      refine g_eq (y := (orr (σ 12 t) a q)) (pk_us) ?_
      refine lv_iconst (v := (nI (1))) hx hb dX0_countRange_36 (by decide) ?_
      refine lv_iload hx hb dX0_countRange_37 (lv_at hl 0 rfl) ?_
      refine lv_ishl hx hb dX0_countRange_39 ?_
      refine lv_ior hx hb dX0_countRange_40 ?_
      refine g_iast (f := upd (σ 12) (t) (orr (σ 12 t) a q)) (ws' := WX h ad d (su (su σ 12 (t) (orr (σ 12 t) a q)) 12 (t) ((orr (σ 12 t) a q) ||| ((nI (1)) <<< ((nI (a + q)) &&& 31))))) E w 11 10 rfl rfl (by omega) (by decide) rfl dX0_countRange_41 (fun H locs w => ?_)
      rw [su_su] at w
      have w : GW D A s.heap s (tX d) (WX h ad d (su σ 12 (t) (orr (σ 12 t) a (q + 1)))) H locs := w
      refine lv_aload_n hx hb dX0_countRange_42 rfl (lv_at hl 3 rfl) ?_
      refine lv_iload_n hx hb dX0_countRange_43 rfl (lv_at hl 4 rfl) ?_
      refine lv_iload hx hb dX0_countRange_44 (lv_at hl 0 rfl) ?_
      refine k_calli (ci := 0) (C := RX0) (T := TX0) (N := 21) (x_inView (su σ 12 (t) (orr (σ 12 t) a (q + 1))) t (a + q) v N f g ht (by omega) hw hw6 hN hT hV) E w q126 q128 qs3 q20 q129 rfl rfl 2 rfl (by decide +kernel) ⟨Nat.le_of_ble_eq_true rfl, Nat.le_of_ble_eq_true rfl⟩ hl.1 rfl (Nat.le_of_ble_eq_true rfl) dX0_countRange_46 ⟨Nat.zero_le _, Nat.zero_le _⟩ (fun r_46 σ_46 H locs hp_46 w => ?_)
      obtain ⟨e1, e2⟩ := hp_46
      rw [e2] at w
      refine g_eq (y := (bI (f (a + q)))) (e1) ?_
      refine lv_if_eq (tgt := 55) hx hb dX0_countRange_49 (by decide) (fun c1 => ?_) (fun c1 => ?_)
      · refine lv_iinc (v := (nI (a + (q + 1)))) (lv' := [(6, .int (nI (a + (q + 1)))), (5, .int (nI (fb_ct (fun j => f (a + j)) q))), (4, .int (nI (0))), (0, .ref h), (1, .int (nI (t))), (2, .int (nI (a))), (3, .int (nI (b)))]) hx hb dX0_countRange_55 hl (k := 0) rfl (nI_1 (a + q)) (by decide) rfl (fun ls hl => ?_)
        refine lv_goto (tgt := 23) hx hb dX0_countRange_58 (by decide) ?_
        have hc : fb_ct (fun j => f (a + j)) (q + 1) = fb_ct (fun j => f (a + j)) q := by rw [fb_ct_succ, bI_eq0.mp c1]; rfl
        rw [← hc] at hl
        exact ih (q + 1) (by omega) H locs ls w hl
      · refine lv_iinc (v := (nI (fb_ct (fun j => f (a + j)) q + 1))) (lv' := [(5, .int (nI (fb_ct (fun j => f (a + j)) q + 1))), (6, .int (nI (a + q))), (4, .int (nI (0))), (0, .ref h), (1, .int (nI (t))), (2, .int (nI (a))), (3, .int (nI (b)))]) hx hb dX0_countRange_52 hl (k := 1) rfl (nI_1 (fb_ct (fun j => f (a + j)) q)) (by decide) rfl (fun ls hl => ?_)
        refine lv_iinc (v := (nI (a + (q + 1)))) (lv' := [(6, .int (nI (a + (q + 1)))), (5, .int (nI (fb_ct (fun j => f (a + j)) q + 1))), (4, .int (nI (0))), (0, .ref h), (1, .int (nI (t))), (2, .int (nI (a))), (3, .int (nI (b)))]) hx hb dX0_countRange_55 hl (k := 1) rfl (nI_1 (a + q)) (by decide) rfl (fun ls hl => ?_)
        refine lv_goto (tgt := 23) hx hb dX0_countRange_58 (by decide) ?_
        have hc : fb_ct (fun j => f (a + j)) (q + 1) = fb_ct (fun j => f (a + j)) q + 1 := by rw [fb_ct_succ, bI_ne0 c1]; rfl
        rw [← hc] at hl
        exact ih (q + 1) (by omega) H locs ls w hl
  rw [← su_same σ 12 t] at w
  exact loop (b + 1 - a) 0 (by omega) H locs ls w hl
set_option maxHeartbeats 4000000 in
set_option maxRecDepth 100000 in
theorem x_newNode (σ : ST) (F q : Nat) (hF : σ 5 0 = nI (F + 1)) (hF5 : F < 512) (hq : σ 6 F = nI q) (hq5 : q < 512) : KMi WX tX yX0_newNode cX0_newNode 2 (some .int) 0 [] σ (fun r σ' => r = nI q ∧ σ' = su (su σ 5 0 (nI F)) 3 q (σ 7 0)) := by
  refine KMi.ofI (own := RX0) (by decide +kernel) rfl (fun _ => Nat.le_of_ble_eq_true rfl) ?_
  intro p l e s m args below meth c D h ad d A ls Q E w ret hl
  have hx := E.1
  have hb := E.2.1
  have hl : lv_has ls 2 [(0, .ref h)] := hl
  refine lv_aload_n hx hb dX0_newNode_0 rfl (lv_at hl 0 rfl) ?_
  refine lv_dup hx hb dX0_newNode_1 rfl ?_
  refine x_get (v := .int (σ 5 0)) E w 5 (by decide) q35 rfl dX0_newNode_2 ?_
  refine g_eq (y := (nI (F + 1))) (hF) ?_
  refine lv_iconst (v := (nI (1))) hx hb dX0_newNode_5 (by decide) ?_
  refine n_isub (by omega) hx hb dX0_newNode_6 ?_
  refine g_eq (y := (nI (F))) (rfl) ?_
  refine x_put (σ' := (su σ 5 0 (nI (F)))) E w 5 (by decide) q35 rfl (by decide +kernel) rfl dX0_newNode_7 (fun H locs w => ?_)
  refine lv_aload_n hx hb dX0_newNode_10 rfl (lv_at hl 0 rfl) ?_
  refine x_get (v := .ref (ad 6)) E w 6 (by decide) q36 rfl dX0_newNode_11 ?_
  refine lv_aload_n hx hb dX0_newNode_14 rfl (lv_at hl 0 rfl) ?_
  refine x_get (v := .int (nI (F))) E w 5 (by decide) q35 rfl dX0_newNode_15 ?_
  refine g_sald (f := σ 6) E w 6 5 rfl rfl (by omega) (by decide) dX0_newNode_18 ?_
  refine g_eq (y := (nI (q))) (hq) ?_
  refine lv_istore_n (lv' := [(1, .int (nI (q))), (0, .ref h)]) hx hb dX0_newNode_19 rfl hl (by decide) rfl (fun ls hl => ?_)
  refine lv_aload_n hx hb dX0_newNode_20 rfl (lv_at hl 1 rfl) ?_
  refine x_get (v := .ref (ad 3)) E w 3 (by decide) q33 rfl dX0_newNode_21 ?_
  refine lv_iload_n hx hb dX0_newNode_24 rfl (lv_at hl 0 rfl) ?_
  refine lv_aload_n hx hb dX0_newNode_25 rfl (lv_at hl 1 rfl) ?_
  refine x_get (v := .int (σ 7 0)) E w 7 (by decide) q37 rfl dX0_newNode_26 ?_
  refine g_iast (f := σ 3) (ws' := WX h ad d (su (su σ 5 0 (nI (F))) 3 (q) (σ 7 0))) E w 4 3 rfl rfl (by omega) (by decide) rfl dX0_newNode_29 (fun H locs w => ?_)
  refine lv_iload_n hx hb dX0_newNode_30 rfl (lv_at hl 0 rfl) ?_
  exact ret _ _ _ _ _ _ (⟨rfl, rfl⟩) w dX0_newNode_31
set_option maxHeartbeats 4000000 in
set_option maxRecDepth 100000 in
theorem x_push_neg (σ : ST) (x k z : Int32) (hneg : x < 0) : KMv WX tX yX0_push cX0_push 4 0 [.int (x), .int (k), .int (z)] σ (fun σ' => σ' = σ) := by
  refine KMv.of (own := RX0) (by decide +kernel) rfl (fun _ => Nat.le_of_ble_eq_true rfl) ?_
  intro p l e s m args below meth c D h ad d A ls Q E w ret hl
  have hx := E.1
  have hb := E.2.1
  have hl : lv_has ls 4 [(0, .ref h), (1, .int (x)), (2, .int (k)), (3, .int (z))] := hl
  refine lv_iload_n hx hb dX0_push_0 rfl (lv_at hl 1 rfl) ?_
  refine lv_if_ge (tgt := 5) hx hb dX0_push_1 (by decide) (fun hn => absurd hn ((fa_of_lt hneg).2.1)) (fun _ => ?_)
  exact ret _ _ _ _ _ (rfl) w dX0_push_4
set_option maxHeartbeats 4000000 in
set_option maxRecDepth 100000 in
theorem x_push (σ : ST) (q k z top : Nat) (hq : q < 512) (hk : k < 128) (hz : z < 128) (htop : σ 20 0 = nI top) (h16 : top < 16) : KMv WX tX yX0_push cX0_push 4 0 [.int (nI (q)), .int (nI (k)), .int (nI (z))] σ (fun σ' => σ' = su (su (su (su σ 17 top (nI q)) 18 top (nI k)) 19 top (nI z)) 20 0 (nI (top + 1))) := by
  refine KMv.of (own := RX0) (by decide +kernel) rfl (fun _ => Nat.le_of_ble_eq_true rfl) ?_
  intro p l e s m args below meth c D h ad d A ls Q E w ret hl
  have hx := E.1
  have hb := E.2.1
  have hl : lv_has ls 4 [(0, .ref h), (1, .int (nI (q))), (2, .int (nI (k))), (3, .int (nI (z)))] := hl
  refine lv_iload_n hx hb dX0_push_0 rfl (lv_at hl 1 rfl) ?_
  refine lv_if_ge (tgt := 5) hx hb dX0_push_1 (by decide) (fun _ => ?_) (fun hn => absurd (nI_pos' (by omega)) hn)
  refine lv_aload_n hx hb dX0_push_5 rfl (lv_at hl 0 rfl) ?_
  refine x_get (v := .ref (ad 17)) E w 17 (by decide) q47 rfl dX0_push_6 ?_
  refine lv_aload_n hx hb dX0_push_9 rfl (lv_at hl 0 rfl) ?_
  refine x_get (v := .int (σ 20 0)) E w 20 (by decide) q50 rfl dX0_push_10 ?_
  refine g_eq (y := (nI (top))) (htop) ?_
  refine lv_iload_n hx hb dX0_push_13 rfl (lv_at hl 1 rfl) ?_
  refine lv_i2s (v := (nI (q))) hx hb dX0_push_14 (ns_i2s hq) ?_
  refine g_sast (f := σ 17) (ws' := WX h ad d (su σ 17 (top) (nI (q)))) E w 16 15 rfl rfl (by omega) (by decide) (ns_small hq) rfl dX0_push_15 (fun H locs w => ?_)
  refine lv_aload_n hx hb dX0_push_16 rfl (lv_at hl 0 rfl) ?_
  refine x_get (v := .ref (ad 18)) E w 18 (by decide) q48 rfl dX0_push_17 ?_
  refine lv_aload_n hx hb dX0_push_20 rfl (lv_at hl 0 rfl) ?_
  refine x_get (v := .int (σ 20 0)) E w 20 (by decide) q50 rfl dX0_push_21 ?_
  refine g_eq (y := (nI (top))) (htop) ?_
  refine lv_iload_n hx hb dX0_push_24 rfl (lv_at hl 2 rfl) ?_
  refine lv_i2b (v := (nI (k))) hx hb dX0_push_25 (fa_byte_small hk) ?_
  refine g_bast (f := σ 18) (ws' := WX h ad d (su (su σ 17 (top) (nI (q))) 18 (top) (nI (k)))) E w 17 16 rfl rfl (by omega) (by decide) (nb_small hk) rfl dX0_push_26 (fun H locs w => ?_)
  refine lv_aload_n hx hb dX0_push_27 rfl (lv_at hl 0 rfl) ?_
  refine x_get (v := .ref (ad 19)) E w 19 (by decide) q49 rfl dX0_push_28 ?_
  refine lv_aload_n hx hb dX0_push_31 rfl (lv_at hl 0 rfl) ?_
  refine x_get (v := .int (σ 20 0)) E w 20 (by decide) q50 rfl dX0_push_32 ?_
  refine g_eq (y := (nI (top))) (htop) ?_
  refine lv_iload_n hx hb dX0_push_35 rfl (lv_at hl 3 rfl) ?_
  refine lv_i2b (v := (nI (z))) hx hb dX0_push_36 (fa_byte_small hz) ?_
  refine g_bast (f := σ 19) (ws' := WX h ad d (su (su (su σ 17 (top) (nI (q))) 18 (top) (nI (k))) 19 (top) (nI (z)))) E w 18 17 rfl rfl (by omega) (by decide) (nb_small hz) rfl dX0_push_37 (fun H locs w => ?_)
  refine lv_aload_n hx hb dX0_push_38 rfl (lv_at hl 0 rfl) ?_
  refine lv_dup hx hb dX0_push_39 rfl ?_
  refine x_get (v := .int (σ 20 0)) E w 20 (by decide) q50 rfl dX0_push_40 ?_
  refine g_eq (y := (nI (top))) (htop) ?_
  refine lv_iconst (v := (nI (1))) hx hb dX0_push_43 (by decide) ?_
  refine n_iadd hx hb dX0_push_44 ?_
  refine x_put (σ' := (su (su (su (su σ 17 (top) (nI (q))) 18 (top) (nI (k))) 19 (top) (nI (z))) 20 0 (nI (top + 1)))) E w 20 (by decide) q50 rfl (by decide +kernel) rfl dX0_push_45 (fun H locs w => ?_)
  exact ret _ _ _ _ _ (rfl) w dX0_push_48
end
section
set_option maxRecDepth 100000
/-- the stack of nodes (node, first key, height), its top first, as the three arrays hold it -/
def Hd (a b c : Nat → Int32) : List (Nat × Nat × Nat) → Prop
  | [] => True
  | z :: r => a r.length = nI z.1 ∧ b r.length = nI z.2.1 ∧ c r.length = nI (2 ^ z.2.2) ∧ Hd a b c r
def Sk (ch st : Nat → Int32) (N : Nat) : List (Nat × Nat × Nat) → Prop
  | [] => True
  | z :: r => z.1 < N ∧ TV ch st N z.2.2 (nI z.1) ∧ z.2.1 % 2 ^ z.2.2 = 0 ∧ z.2.1 + 2 ^ z.2.2 ≤ 32 ∧ z.2.2 + r.length ≤ 5 ∧ Sk ch st N r
def Sm (ch st : Nat → Int32) (q set : Int32) : List (Nat × Nat × Nat) → Nat
  | [] => 0
  | z :: r => ctT ch st q set z.2.2 (nI z.1) z.2.1 + Sm ch st q set r
def Ms : List (Nat × Nat × Nat) → Nat
  | [] => 0
  | z :: r => (2 ^ (z.2.2 + 1) - 1) + Ms r
def pushL (x : Int32) (k l : Nat) (r : List (Nat × Nat × Nat)) : List (Nat × Nat × Nat) := if x < 0 then r else (x.toNatClampNeg, k, l) :: r
theorem Hd_upd {a b c : Nat → Int32} {i : Nat} {x y z : Int32} : ∀ {r : List (Nat × Nat × Nat)}, r.length ≤ i → Hd a b c r → Hd (upd a i x) (upd b i y) (upd c i z) r := by
  intro r
  induction r with
  | nil => intro _ _; trivial
  | cons v r ih =>
    intro h1 h
    obtain ⟨g1, g2, g3, g4⟩ := h
    have h2 : r.length + 1 ≤ i := h1
    have hn : r.length ≠ i := by omega
    refine ⟨?_, ?_, ?_, ih (by omega) g4⟩
    · rw [pk_un hn]; exact g1
    · rw [pk_un hn]; exact g2
    · rw [pk_un hn]; exact g3
section SK
variable {ch st : Nat → Int32} {N : Nat} {q set : Int32}
theorem pushL_m1 (k l : Nat) (r : List (Nat × Nat × Nat)) : pushL (-1) k l r = r := if_pos (by decide)
theorem pushL_nd {n : Nat} (hn : n < 2 ^ 31) (k l : Nat) (r : List (Nat × Nat × Nat)) : pushL (nI n) k l r = (n, k, l) :: r := by
  unfold pushL
  rw [if_neg (nI_pos hn), nI_clamp hn]
theorem pushL_len (x : Int32) (k l : Nat) (r : List (Nat × Nat × Nat)) : (pushL x k l r).length ≤ r.length + 1 := by
  unfold pushL
  split
  · omega
  · exact Nat.le_refl _
theorem pushL_Sm {x : Int32} {k l : Nat} (hN : N ≤ 512) (hT : TV ch st N l x) (r : List (Nat × Nat × Nat)) : Sm ch st q set (pushL x k l r) = ctT ch st q set l x k + Sm ch st q set r := by
  rcases hT.cs with e | ⟨n, h1, e⟩
  · rw [e, pushL_m1, ctT_m1, Nat.zero_add]
  · rw [e, pushL_nd (by omega)]
    rfl
theorem pushL_Ms (x : Int32) (k l : Nat) (r : List (Nat × Nat × Nat)) : Ms (pushL x k l r) ≤ (2 ^ (l + 1) - 1) + Ms r := by
  unfold pushL
  split
  · omega
  · exact Nat.le_refl _
theorem pushL_Sk {x : Int32} {k l : Nat} (hN : N ≤ 512) (hT : TV ch st N l x) {r : List (Nat × Nat × Nat)} (h : Sk ch st N r) (h1 : k % 2 ^ l = 0) (h2 : k + 2 ^ l ≤ 32) (h3 : l + r.length ≤ 5) : Sk ch st N (pushL x k l r) := by
  rcases hT.cs with e | ⟨n, g1, e⟩
  · rw [e, pushL_m1]; exact h
  · rw [e, pushL_nd (by omega)]
    rw [e] at hT
    exact ⟨g1, hT, h1, h2, h3, h⟩
end SK
theorem msk_bit : ∀ l, l < 5 → ∀ i, i < 32 → bt ((nI 1 <<< (nI (2 ^ l) &&& 31)) - nI 1) i = decide (i < 2 ^ l) := by decide +kernel
theorem ins_iff {set : Int32} {ky l : Nat} (hl : l < 5) (hk : ky + 2 ^ l ≤ 32) : (set.toUInt32 >>> ((nI ky).toUInt32 &&& Int32.toUInt32 31)).toInt32 &&& ((nI 1 <<< (nI (2 ^ l) &&& 31)) - nI 1) = 0 ↔ ∀ j, j < 2 ^ l → bt set (ky + j) = false := by
  have hp : 0 < 2 ^ l := Nat.two_pow_pos l
  constructor
  · intro h j hj
    have h1 := b_and (set.toUInt32 >>> ((nI ky).toUInt32 &&& Int32.toUInt32 31)).toInt32 ((nI 1 <<< (nI (2 ^ l) &&& 31)) - nI 1) j
    rw [h, b_0, b_ushr ky (by omega), msk_bit l hl j (by omega), decide_eq_true hj, Bool.and_true] at h1
    exact h1.symm
  · intro h
    refine b_ext (fun i hi => ?_)
    rw [b_and, b_0, b_ushr ky (by omega), msk_bit l hl i hi]
    by_cases g : i < 2 ^ l
    · rw [h i g, Bool.false_and]
    · rw [decide_eq_false g, Bool.and_false]
theorem ins_5 {set : Int32} {ky : Nat} (hk : ky + 2 ^ 5 ≤ 32) : set = 0 ↔ ∀ j, j < 2 ^ 5 → bt set (ky + j) = false := by
  have e : ky = 0 := by have : (2 : Nat) ^ 5 = 32 := rfl; omega
  subst e
  constructor
  · intro h j hj
    rw [h, b_0]
  · intro h
    refine b_ext (fun i hi => ?_)
    have h1 := h i hi
    rw [Nat.zero_add] at h1
    rw [h1, b_0]
theorem pow2_5 {l : Nat} (hl : l ≤ 5) (h : nI (2 ^ l) = nI 32) : l = 5 := by
  rcases (show l = 0 ∨ l = 1 ∨ l = 2 ∨ l = 3 ∨ l = 4 ∨ l = 5 by omega) with e | e | e | e | e | e <;> subst e <;> first | rfl | exact absurd h (by decide)
theorem pow2_n5 {l : Nat} (hl : l ≤ 5) (h : ¬ nI (2 ^ l) = nI 32) : l < 5 := by
  rcases Nat.lt_or_ge l 5 with g | g
  · exact g
  · exact absurd (by rw [show l = 5 by omega]) h
theorem pow2_0 {l : Nat} (hl : l ≤ 5) (h : nI (2 ^ l) = nI 1) : l = 0 := by
  rcases (show l = 0 ∨ l = 1 ∨ l = 2 ∨ l = 3 ∨ l = 4 ∨ l = 5 by omega) with e | e | e | e | e | e <;> subst e <;> first | rfl | exact absurd h (by decide)
theorem pow2_n0 {l : Nat} (h : ¬ nI (2 ^ l) = nI 1) : ∃ lp, l = lp + 1 := by
  cases l with
  | zero => exact absurd rfl h
  | succ l => exact ⟨l, rfl⟩
theorem pow2_le {l : Nat} (hl : l ≤ 5) : 2 ^ l ≤ 32 := Nat.pow_le_pow_right (by decide) hl
theorem pow2_half (l : Nat) : nI (2 ^ (l + 1) / 2) = nI (2 ^ l) := by rw [Nat.pow_succ, Nat.mul_div_cancel _ (by decide)]
/-- push of a tree, or of nothing, told by the list -/
theorem x_pushL (σ : ST) (x : Int32) (k l N : Nat) (r : List (Nat × Nat × Nat)) (ch st : Nat → Int32) (hN : N ≤ 512) (hT : TV ch st N l x) (hk : k < 128) (hl : l ≤ 5) (h16 : r.length < 16) (htop : σ 20 0 = nI r.length) (hH : Hd (σ 17) (σ 18) (σ 19) r) :
    KMv WX tX yX0_push cX0_push 4 0 [.int x, .int (nI k), .int (nI (2 ^ l))] σ (fun σ' => (∀ a, a < 17 → σ' a = σ a) ∧ σ' 20 0 = nI (pushL x k l r).length ∧ Hd (σ' 17) (σ' 18) (σ' 19) (pushL x k l r)) := by
  have h2 := pow2_le hl
  rcases hT.cs with e | ⟨n, h1, e⟩
  · subst e
    refine KMv.mono (x_push_neg σ _ _ _ (by decide)) (fun σ' e => ?_)
    subst e
    rw [pushL_m1]
    exact ⟨fun _ _ => rfl, htop, hH⟩
  · subst e
    refine KMv.mono (x_push σ n k (2 ^ l) r.length (by omega) hk (by omega) htop h16) (fun σ' e => ?_)
    subst e
    rw [pushL_nd (by omega)]
    refine ⟨fun a ha => ?_, rfl, ?_, ?_, ?_, ?_⟩
    · rw [su_ne _ _ _ (by omega), su_ne _ _ _ (by omega), su_ne _ _ _ (by omega), su_ne _ _ _ (by omega)]
    · show upd (σ 17) r.length (nI n) r.length = _
      rw [pk_us]
    · show upd (σ 18) r.length (nI k) r.length = _
      rw [pk_us]
    · show upd (σ 19) r.length (nI (2 ^ l)) r.length = _
      rw [pk_us]
    · exact Hd_upd (Nat.le_refl _) hH
end
section
set_option maxRecDepth 100000
set_option maxHeartbeats 4000000 in
set_option maxRecDepth 100000 in
theorem x_changedSince (σ : ST) (x y z : Int32) (N : Nat) (hN : N ≤ 512) (hT : TV (σ 0) (σ 3) N 5 x) : KMi WX tX yX0_changedSince cX0_changedSince 9 (some .int) 1 [.int (x), .int (y), .int (z)] σ (fun r σ' => r = nI (ctT (σ 0) (σ 3) y z 5 x 0) ∧ ∀ a, a < 17 → σ' a = σ a) := by
  refine KMi.ofI (own := RX0) (by decide +kernel) rfl (fun _ => Nat.le_of_ble_eq_true rfl) ?_
  intro p l e s m args below meth c D h ad d A ls Q E w ret hl
  have hx := E.1
  have hb := E.2.1
  have hl : lv_has ls 9 [(0, .ref h), (1, .int (x)), (2, .int (y)), (3, .int (z))] := hl
  have loop : ∀ (u : Nat) (K : List (Nat × Nat × Nat)) (cn : Nat) (σ1 : ST), Ms K ≤ u → (∀ a, a < 17 → σ1 a = σ a) → σ1 20 0 = nI K.length → Hd (σ1 17) (σ1 18) (σ1 19) K → Sk (σ 0) (σ 3) N K → cn + Sm (σ 0) (σ 3) y z K = ctT (σ 0) (σ 3) y z 5 x 0 → ∀ (H : Heap) (locs : List Loc) (ls : Array Slot), GW D A s.heap s (tX d) (WX h ad d σ1) H locs → lv_has ls 9 [(4, .int (nI (cn))), (0, .ref h), (1, .int (x)), (2, .int (y)), (3, .int (z))] → W p l e (rm 1) s m args below meth c H locs 0 0 Q (F0 m 16 ls []) := by
    intro u
    induction u with
    | zero =>
      intro K cn σ1 hM hk htop hH hS hsum H locs ls w hl
      cases K with
      | nil =>
        refine lv_aload_n hx hb dX0_changedSince_16 rfl (lv_at hl 1 rfl) ?_
        refine x_get (v := .int (σ1 20 0)) E w 20 (by decide) q50 rfl dX0_changedSince_17 ?_
        refine g_eq (y := (nI (0))) (htop) ?_
        refine lv_if_le (tgt := 169) hx hb dX0_changedSince_20 (by decide) (fun _ => ?_) (fun hn => absurd (by decide) hn)
        refine lv_iload hx hb dX0_changedSince_169 (lv_at hl 0 rfl) ?_
        exact ret _ _ _ _ _ _ (⟨by rw [← hsum]; rfl, hk⟩) w dX0_changedSince_171
      | cons v K =>
        have h1 : (2 ^ (v.2.2 + 1) - 1) + Ms K ≤ 0 := hM
        have h2 : 2 ≤ 2 ^ (v.2.2 + 1) := by rw [Nat.pow_succ]; have := Nat.two_pow_pos v.2.2; omega
        omega
    | succ u ih =>
      intro K cn σ1 hM hk htop hH hS hsum H locs ls w hl
      cases K with
      | nil =>
        refine lv_aload_n hx hb dX0_changedSince_16 rfl (lv_at hl 1 rfl) ?_
        refine x_get (v := .int (σ1 20 0)) E w 20 (by decide) q50 rfl dX0_changedSince_17 ?_
        refine g_eq (y := (nI (0))) (htop) ?_
        refine lv_if_le (tgt := 169) hx hb dX0_changedSince_20 (by decide) (fun _ => ?_) (fun hn => absurd (by decide) hn)
        refine lv_iload hx hb dX0_changedSince_169 (lv_at hl 0 rfl) ?_
        exact ret _ _ _ _ _ _ (⟨by rw [← hsum]; rfl, hk⟩) w dX0_changedSince_171
      | cons v K =>
        obtain ⟨nd, ky, lv⟩ := v
        obtain ⟨hn, hTn, hk0, hk32, hl5, hS⟩ := hS
        obtain ⟨g17, g18, g19, hH⟩ := hH
        have hM : (2 ^ (lv + 1) - 1) + Ms K ≤ u + 1 := hM
        have hsum : cn + (ctT (σ 0) (σ 3) y z lv (nI nd) ky + Sm (σ 0) (σ 3) y z K) = ctT (σ 0) (σ 3) y z 5 x 0 := hsum
        have hl5 : lv + K.length ≤ 5 := hl5
        have hn : nd < N := hn
        have hTn : TV (σ 0) (σ 3) N lv (nI nd) := hTn
        have hk0 : ky % 2 ^ lv = 0 := hk0
        have hk32 : ky + 2 ^ lv ≤ 32 := hk32
        have htop : σ1 20 0 = nI (K.length + 1) := htop
        have g17 : σ1 17 K.length = nI nd := g17
        have g18 : σ1 18 K.length = nI ky := g18
        have g19 : σ1 19 K.length = nI (2 ^ lv) := g19
        have hp : 0 < 2 ^ lv := Nat.two_pow_pos lv
        have hp2 : 2 ^ (lv + 1) = 2 * 2 ^ lv := by rw [Nat.pow_succ]; omega
        have hp3 : 2 ^ lv ≤ 32 := pow2_le (by omega)
        refine lv_aload_n hx hb dX0_changedSince_16 rfl (lv_at hl 1 rfl) ?_
        refine x_get (v := .int (σ1 20 0)) E w 20 (by decide) q50 rfl dX0_changedSince_17 ?_
        refine g_eq (y := (nI (K.length + 1))) (htop) ?_
        refine lv_if_le (tgt := 169) hx hb dX0_changedSince_20 (by decide) (fun hn => absurd hn (nI_nle (by omega) (by omega))) (fun _ => ?_)
        refine lv_aload_n hx hb dX0_changedSince_23 rfl (lv_at hl 1 rfl) ?_
        refine lv_dup hx hb dX0_changedSince_24 rfl ?_
        refine x_get (v := .int (σ1 20 0)) E w 20 (by decide) q50 rfl dX0_changedSince_25 ?_
        refine g_eq (y := (nI (K.length + 1))) (htop) ?_
        refine lv_iconst (v := (nI (1))) hx hb dX0_changedSince_28 (by decide) ?_
        refine n_isub (by omega) hx hb dX0_changedSince_29 ?_
        refine g_eq (y := (nI (K.length))) (rfl) ?_
        refine x_put (σ' := (su σ1 20 0 (nI (K.length)))) E w 20 (by decide) q50 rfl (by decide +kernel) rfl dX0_changedSince_30 (fun H locs w => ?_)
        refine lv_aload_n hx hb dX0_changedSince_33 rfl (lv_at hl 1 rfl) ?_
        refine x_get (v := .ref (ad 17)) E w 17 (by decide) q47 rfl dX0_changedSince_34 ?_
        refine lv_aload_n hx hb dX0_changedSince_37 rfl (lv_at hl 1 rfl) ?_
        refine x_get (v := .int (nI (K.length))) E w 20 (by decide) q50 rfl dX0_changedSince_38 ?_
        refine g_sald (f := σ1 17) E w 16 15 rfl rfl (by omega) (by decide) dX0_changedSince_41 ?_
        refine g_eq (y := (nI (nd))) (g17) ?_
        refine lv_istore (lv' := [(5, .int (nI (nd))), (4, .int (nI (cn))), (0, .ref h), (1, .int (x)), (2, .int (y)), (3, .int (z))]) hx hb dX0_changedSince_42 hl (by decide) rfl (fun ls hl => ?_)
        refine lv_aload_n hx hb dX0_changedSince_44 rfl (lv_at hl 2 rfl) ?_
        refine x_get (v := .ref (ad 18)) E w 18 (by decide) q48 rfl dX0_changedSince_45 ?_
        refine lv_aload_n hx hb dX0_changedSince_48 rfl (lv_at hl 2 rfl) ?_
        refine x_get (v := .int (nI (K.length))) E w 20 (by decide) q50 rfl dX0_changedSince_49 ?_
        refine g_bald (f := σ1 18) E w 17 16 rfl rfl (by omega) (by decide) dX0_changedSince_52 ?_
        refine g_eq (y := (nI (ky))) (g18) ?_
        refine lv_istore (lv' := [(6, .int (nI (ky))), (5, .int (nI (nd))), (4, .int (nI (cn))), (0, .ref h), (1, .int (x)), (2, .int (y)), (3, .int (z))]) hx hb dX0_changedSince_53 hl (by decide) rfl (fun ls hl => ?_)
        refine lv_aload_n hx hb dX0_changedSince_55 rfl (lv_at hl 3 rfl) ?_
        refine x_get (v := .ref (ad 19)) E w 19 (by decide) q49 rfl dX0_changedSince_56 ?_
        refine lv_aload_n hx hb dX0_changedSince_59 rfl (lv_at hl 3 rfl) ?_
        refine x_get (v := .int (nI (K.length))) E w 20 (by decide) q50 rfl dX0_changedSince_60 ?_
        refine g_bald (f := σ1 19) E w 18 17 rfl rfl (by omega) (by decide) dX0_changedSince_63 ?_
        refine g_eq (y := (nI (2 ^ lv))) (g19) ?_
        refine lv_istore (lv' := [(7, .int (nI (2 ^ lv))), (6, .int (nI (ky))), (5, .int (nI (nd))), (4, .int (nI (cn))), (0, .ref h), (1, .int (x)), (2, .int (y)), (3, .int (z))]) hx hb dX0_changedSince_64 hl (by decide) rfl (fun ls hl => ?_)
        have rest8 : ∀ (ins : Int32), (ins = 0 ↔ ∀ j, j < 2 ^ lv → bt z (ky + j) = false) → ∀ ls : Array Slot, lv_has ls 9 [(8, .int (ins)), (7, .int (nI (2 ^ lv))), (6, .int (nI (ky))), (5, .int (nI (nd))), (4, .int (nI (cn))), (0, .ref h), (1, .int (x)), (2, .int (y)), (3, .int (z))] → W p l e (rm 1) s m args below meth c H locs 0 0 Q (F0 m 90 ls []) := by
          intro ins hins ls hl
          have hk2 : ∀ a, a < 17 → (su σ1 20 0 (nI (K.length))) a = σ a := fun a ha => (su_ne σ1 0 _ (by omega)).trans (hk a ha)
          refine lv_aload_n hx hb dX0_changedSince_90 rfl (lv_at hl 5 rfl) ?_
          refine x_get (v := .ref (ad 3)) E w 3 (by decide) q33 rfl dX0_changedSince_91 ?_
          refine lv_iload hx hb dX0_changedSince_94 (lv_at hl 3 rfl) ?_
          refine g_iald (f := σ1 3) E w 4 3 rfl rfl (by omega) (by decide) dX0_changedSince_96 ?_
          refine g_eq (y := (σ 3 nd)) (by rw [hk 3 (by decide)]) ?_
          refine lv_iload_n hx hb dX0_changedSince_97 rfl (lv_at hl 7 rfl) ?_
          refine lv_icmp_le (tgt := 16) hx hb dX0_changedSince_98 (by decide) (fun c2 => ?_) (fun c2 => ?_)
          · exact ih K cn _ (by omega) hk2 rfl hH hS (by rw [← hsum, ctT_old hN hTn hn c2, Nat.zero_add]) H locs ls w (lv_sub hl [4, 5, 6, 7, 8] rfl)
          · refine lv_iload hx hb dX0_changedSince_101 (lv_at hl 0 rfl) ?_
            refine lv_if_ne (tgt := 109) hx hb dX0_changedSince_103 (by decide) (fun c3 => ?_) (fun c3 => ?_)
            · refine lv_iload hx hb dX0_changedSince_109 (lv_at hl 1 rfl) ?_
              refine lv_iconst (v := (nI (1))) hx hb dX0_changedSince_111 (by decide) ?_
              refine lv_icmp_ne (tgt := 121) hx hb dX0_changedSince_112 (by decide) (fun c4 => ?_) (fun c4 => ?_)
              · obtain ⟨lp, e0⟩ := pow2_n0 c4
                subst e0
                obtain ⟨t0, -, -⟩ := hTn.kid hN (by omega) (b := 0) (by decide)
                obtain ⟨t1, -, -⟩ := hTn.kid hN (by omega) (b := 1) (by decide)
                have t0 : TV (σ 0) (σ 3) N lp (σ 0 (2 * nd)) := t0
                have hq2 : 2 ^ (lp + 1) = 2 * 2 ^ lp := by rw [Nat.pow_succ]; omega
                have hq0 : ky % 2 ^ lp = 0 := by
                  obtain ⟨v, e⟩ := Nat.dvd_of_mod_eq_zero hk0
                  rw [e, Nat.pow_succ, Nat.mul_assoc]
                  exact Nat.mul_mod_right _ _
                have hq1 : (ky + 2 ^ lp) % 2 ^ lp = 0 := by rw [Nat.add_mod_right]; exact hq0
                refine lv_aload_n hx hb dX0_changedSince_121 rfl (lv_at hl 5 rfl) ?_
                refine lv_aload_n hx hb dX0_changedSince_122 rfl (lv_at hl 5 rfl) ?_
                refine x_get (v := .ref (ad 0)) E w 0 (by decide) q30 rfl dX0_changedSince_123 ?_
                refine lv_iconst (v := (nI (2))) hx hb dX0_changedSince_126 (by decide) ?_
                refine lv_iload hx hb dX0_changedSince_127 (lv_at hl 3 rfl) ?_
                refine n_imul hx hb dX0_changedSince_129 ?_
                refine g_sald (f := σ1 0) E w 1 0 rfl rfl (by omega) (by decide) dX0_changedSince_130 ?_
                refine g_eq (y := (σ 0 (2 * nd))) (by rw [hk 0 (by decide)]) ?_
                refine lv_iload hx hb dX0_changedSince_131 (lv_at hl 2 rfl) ?_
                refine lv_iload hx hb dX0_changedSince_133 (lv_at hl 1 rfl) ?_
                refine lv_iconst (v := (nI (2))) hx hb dX0_changedSince_135 (by decide) ?_
                refine n_idiv (by omega) (by decide) (by decide) hx hb dX0_changedSince_136 ?_
                refine g_eq (y := (nI (2 ^ lp))) (pow2_half lp) ?_
                refine k_callv (ci := 0) (C := RX0) (T := TX0) (N := 21) (x_pushL (su σ1 20 0 (nI (K.length))) (σ 0 (2 * nd)) ky lp N K (σ 0) (σ 3) hN t0 (by omega) (by omega) (by omega) rfl hH) E w q150 q152 qs6 q20 q153 rfl rfl 3 rfl (by decide +kernel) ⟨Nat.le_of_ble_eq_true rfl, Nat.le_of_ble_eq_true rfl⟩ hl.1 rfl (Nat.le_of_ble_eq_true rfl) dX0_changedSince_137 ⟨Nat.zero_le _, Nat.zero_le _⟩ (fun σ_137 H locs hp_137 w => ?_)
                obtain ⟨f1, f2, f3⟩ := hp_137
                refine lv_aload_n hx hb dX0_changedSince_140 rfl (lv_at hl 5 rfl) ?_
                refine lv_aload_n hx hb dX0_changedSince_141 rfl (lv_at hl 5 rfl) ?_
                refine x_get (v := .ref (ad 0)) E w 0 (by decide) q30 rfl dX0_changedSince_142 ?_
                refine lv_iconst (v := (nI (2))) hx hb dX0_changedSince_145 (by decide) ?_
                refine lv_iload hx hb dX0_changedSince_146 (lv_at hl 3 rfl) ?_
                refine n_imul hx hb dX0_changedSince_148 ?_
                refine lv_iconst (v := (nI (1))) hx hb dX0_changedSince_149 (by decide) ?_
                refine n_iadd hx hb dX0_changedSince_150 ?_
                refine g_sald (f := σ_137 0) E w 1 0 rfl rfl (by omega) (by decide) dX0_changedSince_151 ?_
                refine g_eq (y := (σ 0 (2 * nd + 1))) (by rw [f1 0 (by decide), hk2 0 (by decide)]) ?_
                refine lv_iload hx hb dX0_changedSince_152 (lv_at hl 2 rfl) ?_
                refine lv_iload hx hb dX0_changedSince_154 (lv_at hl 1 rfl) ?_
                refine lv_iconst (v := (nI (2))) hx hb dX0_changedSince_156 (by decide) ?_
                refine n_idiv (by omega) (by decide) (by decide) hx hb dX0_changedSince_157 ?_
                refine g_eq (y := (nI (2 ^ lp))) (pow2_half lp) ?_
                refine n_iadd hx hb dX0_changedSince_158 ?_
                refine lv_iload hx hb dX0_changedSince_159 (lv_at hl 1 rfl) ?_
                refine lv_iconst (v := (nI (2))) hx hb dX0_changedSince_161 (by decide) ?_
                refine n_idiv (by omega) (by decide) (by decide) hx hb dX0_changedSince_162 ?_
                refine g_eq (y := (nI (2 ^ lp))) (pow2_half lp) ?_
                refine k_callv (ci := 0) (C := RX0) (T := TX0) (N := 21) (x_pushL σ_137 (σ 0 (2 * nd + 1)) (ky + 2 ^ lp) lp N (pushL (σ 0 (2 * nd)) ky lp K) (σ 0) (σ 3) hN t1 (by omega) (by omega) (by have := pushL_len (σ 0 (2 * nd)) ky lp K; omega) f2 f3) E w q150 q152 qs6 q20 q153 rfl rfl 3 rfl (by decide +kernel) ⟨Nat.le_of_ble_eq_true rfl, Nat.le_of_ble_eq_true rfl⟩ hl.1 rfl (Nat.le_of_ble_eq_true rfl) dX0_changedSince_163 ⟨Nat.zero_le _, Nat.zero_le _⟩ (fun σ_163 H locs hp_163 w => ?_)
                obtain ⟨j1, j2, j3⟩ := hp_163
                refine lv_goto (tgt := 16) hx hb dX0_changedSince_166 (by decide) ?_
                have m1 := pushL_Ms (σ 0 (2 * nd)) ky lp K
                have m2 := pushL_Ms (σ 0 (2 * nd + 1)) (ky + 2 ^ lp) lp (pushL (σ 0 (2 * nd)) ky lp K)
                have m3 := pushL_len (σ 0 (2 * nd)) ky lp K
                exact ih _ cn σ_163 (by omega) (fun a ha => (j1 a ha).trans ((f1 a ha).trans (hk2 a ha))) j2 j3 (pushL_Sk hN t1 (pushL_Sk hN t0 hS hq0 (by omega) (by omega)) hq1 (by omega) (by omega)) (by rw [pushL_Sm hN t1, pushL_Sm hN t0, ← hsum, ctT_node (by omega) hk0]; omega) H locs ls w (lv_sub hl [4, 5, 6, 7, 8] rfl)
              · have e0 := pow2_0 (by omega) c4
                subst e0
                have hbt : bt z ky = true := by
                  rcases Bool.eq_false_or_eq_true (bt z ky) with g | g
                  · exact g
                  · refine absurd (hins.mpr (fun j hj => ?_)) c3
                    have : j = 0 := by omega
                    subst this
                    exact g
                refine lv_iinc (v := (nI (cn + 1))) (lv' := [(4, .int (nI (cn + 1))), (8, .int (ins)), (7, .int (nI (2 ^ 0))), (6, .int (nI (ky))), (5, .int (nI (nd))), (0, .ref h), (1, .int (x)), (2, .int (y)), (3, .int (z))]) hx hb dX0_changedSince_115 hl (k := 4) rfl (nI_1 (cn)) (by decide) rfl (fun ls hl => ?_)
                refine lv_goto (tgt := 16) hx hb dX0_changedSince_118 (by decide) ?_
                exact ih K (cn + 1) _ (by omega) hk2 rfl hH hS (by rw [← hsum, ctT_leaf (by omega) hbt (fa_of_nle c2)]; omega) H locs ls w (lv_sub hl [0, 5, 6, 7, 8] rfl)
            · refine lv_goto (tgt := 16) hx hb dX0_changedSince_106 (by decide) ?_
              exact ih K cn _ (by omega) hk2 rfl hH hS (by rw [← hsum, ctT_out (hins.mp c3), Nat.zero_add]) H locs ls w (lv_sub hl [4, 5, 6, 7, 8] rfl)
        refine lv_iload hx hb dX0_changedSince_66 (lv_at hl 0 rfl) ?_
        refine lv_bipush (v := (nI (32))) hx hb dX0_changedSince_68 (by decide) ?_
        refine lv_icmp_ne (tgt := 77) hx hb dX0_changedSince_70 (by decide) (fun c1 => ?_) (fun c1 => ?_)
        · have hlt := pow2_n5 (by omega) c1
          refine lv_iload_n hx hb dX0_changedSince_77 rfl (lv_at hl 7 rfl) ?_
          refine lv_iload hx hb dX0_changedSince_78 (lv_at hl 1 rfl) ?_
          refine lv_iushr (v := ((z).toUInt32 >>> ((nI (ky)).toUInt32 &&& Int32.toUInt32 31)).toInt32) hx hb dX0_changedSince_80 rfl ?_
          refine lv_iconst (v := (nI (1))) hx hb dX0_changedSince_81 (by decide) ?_
          refine lv_iload hx hb dX0_changedSince_82 (lv_at hl 0 rfl) ?_
          refine lv_ishl hx hb dX0_changedSince_84 ?_
          refine lv_iconst (v := (nI (1))) hx hb dX0_changedSince_85 (by decide) ?_
          refine lv_isub hx hb dX0_changedSince_86 ?_
          refine lv_iand hx hb dX0_changedSince_87 ?_
          refine lv_istore (lv' := [(8, .int ((((z).toUInt32 >>> ((nI (ky)).toUInt32 &&& Int32.toUInt32 31)).toInt32) &&& (((nI (1)) <<< ((nI (2 ^ lv)) &&& 31)) - (nI (1))))), (7, .int (nI (2 ^ lv))), (6, .int (nI (ky))), (5, .int (nI (nd))), (4, .int (nI (cn))), (0, .ref h), (1, .int (x)), (2, .int (y)), (3, .int (z))]) hx hb dX0_changedSince_88 hl (by decide) rfl (fun ls hl => ?_)
          exact rest8 _ (ins_iff hlt hk32) ls hl
        · have e5 := pow2_5 (by omega) c1
          subst e5
          refine lv_iload_n hx hb dX0_changedSince_73 rfl (lv_at hl 7 rfl) ?_
          refine lv_goto (tgt := 88) hx hb dX0_changedSince_74 (by decide) ?_
          refine lv_istore (lv' := [(8, .int (z)), (7, .int (nI (2 ^ 5))), (6, .int (nI (ky))), (5, .int (nI (nd))), (4, .int (nI (cn))), (0, .ref h), (1, .int (x)), (2, .int (y)), (3, .int (z))]) hx hb dX0_changedSince_88 hl (by decide) rfl (fun ls hl => ?_)
          exact rest8 _ (ins_5 hk32) ls hl
  refine lv_iconst (v := (nI (0))) hx hb dX0_changedSince_0 (by decide) ?_
  refine lv_istore (lv' := [(4, .int (nI (0))), (0, .ref h), (1, .int (x)), (2, .int (y)), (3, .int (z))]) hx hb dX0_changedSince_1 hl (by decide) rfl (fun ls hl => ?_)
  refine lv_aload_n hx hb dX0_changedSince_3 rfl (lv_at hl 1 rfl) ?_
  refine lv_iconst (v := (nI (0))) hx hb dX0_changedSince_4 (by decide) ?_
  refine x_put (σ' := (su σ 20 0 (nI (0)))) E w 20 (by decide) q50 rfl (by decide +kernel) rfl dX0_changedSince_5 (fun H locs w => ?_)
  refine lv_aload_n hx hb dX0_changedSince_8 rfl (lv_at hl 1 rfl) ?_
  refine lv_iload_n hx hb dX0_changedSince_9 rfl (lv_at hl 2 rfl) ?_
  refine lv_iconst (v := (nI (0))) hx hb dX0_changedSince_10 (by decide) ?_
  refine lv_bipush (v := (nI (32))) hx hb dX0_changedSince_11 (by decide) ?_
  refine k_callv (ci := 0) (C := RX0) (T := TX0) (N := 21) (x_pushL (su σ 20 0 (nI 0)) x 0 5 N [] (σ 0) (σ 3) hN hT (by decide) (by decide) (by decide) rfl trivial) E w q150 q152 qs6 q20 q153 rfl rfl 3 rfl (by decide +kernel) ⟨Nat.le_of_ble_eq_true rfl, Nat.le_of_ble_eq_true rfl⟩ hl.1 rfl (Nat.le_of_ble_eq_true rfl) dX0_changedSince_13 ⟨Nat.zero_le _, Nat.zero_le _⟩ (fun σ_13 H locs hp_13 w => ?_)
  obtain ⟨f1, f2, f3⟩ := hp_13
  exact loop (Ms (pushL x 0 5 [])) _ 0 σ_13 (Nat.le_refl _) (fun a ha => (f1 a ha).trans (su_ne σ 0 _ (by omega))) f2 f3 (pushL_Sk hN hT trivial (by decide) (by decide) (by decide)) (by rw [pushL_Sm hN hT]; show 0 + (_ + 0) = _; omega) H locs ls w hl
end
section
set_option maxRecDepth 100000
/-- what written(x, y) leaves: the key k's new way above the nodes below N -/
def WrP (σ σ' : ST) (x : Int32) (y k N : Nat) : Prop :=
  (∀ a, a < 17 → a ≠ 0 → a ≠ 1 → a ≠ 2 → a ≠ 3 → a ≠ 5 → σ' a = σ a) ∧ σ' 5 0 = nI (512 - (N + 6)) ∧ (∀ i, i < 2 * N → σ' 0 i = σ 0 i) ∧ (∀ i, i < N → σ' 1 i = σ 1 i ∧ σ' 2 i = σ 2 i ∧ σ' 3 i = σ 3 i) ∧ (∀ i, N ≤ i → i < N + 6 → σ' 3 i = σ 7 0) ∧ σ' 1 N = σ 15 y ∧ σ' 2 N = σ 16 y ∧ TV (σ' 0) (σ' 3) (N + 6) 5 (nI (N + 5)) ∧ ∀ k', k' < 32 → lf (σ' 0) 5 (nI (N + 5)) k' = if k' = k then nI N else lf (σ 0) 5 x k'
set_option maxHeartbeats 4000000 in
set_option maxRecDepth 100000 in
theorem x_written (σ : ST) (x : Int32) (y k N : Nat) (hN : N + 6 ≤ 512) (hk : k < 32) (hy : y < 24) (hT : TV (σ 0) (σ 3) N 5 x) (hkey : σ 14 y = nI k) (h16 : vp_nar .boolean (σ 16 y) = σ 16 y) (hF : σ 5 0 = nI (512 - N)) (h6 : ∀ j, j < 512 → σ 6 j = nI (511 - j)) (hst : ∀ i, i < N → σ 3 i ≤ σ 7 0) : KMi WX tX yX0_written cX0_written 11 (some .int) 1 [.int (x), .int (nI (y))] σ (fun r σ' => r = nI (N + 5) ∧ WrP σ σ' x y k N) := by
  refine KMi.ofI (own := RX0) (by decide +kernel) rfl (fun _ => Nat.le_of_ble_eq_true rfl) ?_
  intro p l e s m args below meth c D h ad d A ls Q E w ret hl
  have hx := E.1
  have hb := E.2.1
  have hl : lv_has ls 11 [(0, .ref h), (1, .int (x)), (2, .int (nI (y)))] := hl
  refine lv_aload_n hx hb dX0_written_0 rfl (lv_at hl 0 rfl) ?_
  refine x_get (v := .ref (ad 14)) E w 14 (by decide) q44 rfl dX0_written_1 ?_
  refine lv_iload_n hx hb dX0_written_4 rfl (lv_at hl 2 rfl) ?_
  refine g_bald (f := σ 14) E w 13 12 rfl rfl (by omega) (by decide) dX0_written_5 ?_
  refine g_eq (y := (nI (k))) (hkey) ?_
  refine lv_istore_n (lv' := [(3, .int (nI (k))), (0, .ref h), (1, .int (x)), (2, .int (nI (y)))]) hx hb dX0_written_6 rfl hl (by decide) rfl (fun ls hl => ?_)
  refine lv_aload_n hx hb dX0_written_7 rfl (lv_at hl 1 rfl) ?_
  refine k_calli (ci := 0) (C := RX0) (T := TX0) (N := 21) (x_newNode σ (511 - N) N (hF.trans (congrArg nI (by omega))) (by omega) ((h6 _ (by omega)).trans (congrArg nI (by omega))) (by omega)) E w q166 q168 qs10 q20 q169 rfl rfl 0 rfl (by decide +kernel) ⟨Nat.le_of_ble_eq_true rfl, Nat.le_of_ble_eq_true rfl⟩ hl.1 rfl (Nat.le_of_ble_eq_true rfl) dX0_written_8 ⟨Nat.zero_le _, Nat.zero_le _⟩ (fun r_8 σ_8 H locs hp_8 w => ?_)
  obtain ⟨e1, e2⟩ := hp_8
  rw [e2] at w
  refine g_eq (y := (nI (N))) (e1) ?_
  refine lv_istore (lv' := [(4, .int (nI (N))), (3, .int (nI (k))), (0, .ref h), (1, .int (x)), (2, .int (nI (y)))]) hx hb dX0_written_11 hl (by decide) rfl (fun ls hl => ?_)
  refine lv_aload_n hx hb dX0_written_13 rfl (lv_at hl 2 rfl) ?_
  refine x_get (v := .ref (ad 0)) E w 0 (by decide) q30 rfl dX0_written_14 ?_
  refine lv_iconst (v := (nI (2))) hx hb dX0_written_17 (by decide) ?_
  refine lv_iload hx hb dX0_written_18 (lv_at hl 0 rfl) ?_
  refine n_imul hx hb dX0_written_20 ?_
  refine lv_iconst (v := (-1)) hx hb dX0_written_21 (by decide) ?_
  refine g_sast (f := σ 0) (ws' := WX h ad d (su (su (su σ 5 0 (nI (511 - N))) 3 N (σ 7 0)) 0 (2 * N) (-1))) E w 1 0 rfl rfl (by omega) (by decide) (ns_m1) rfl dX0_written_22 (fun H locs w => ?_)
  refine lv_aload_n hx hb dX0_written_23 rfl (lv_at hl 2 rfl) ?_
  refine x_get (v := .ref (ad 0)) E w 0 (by decide) q30 rfl dX0_written_24 ?_
  refine lv_iconst (v := (nI (2))) hx hb dX0_written_27 (by decide) ?_
  refine lv_iload hx hb dX0_written_28 (lv_at hl 0 rfl) ?_
  refine n_imul hx hb dX0_written_30 ?_
  refine lv_iconst (v := (nI (1))) hx hb dX0_written_31 (by decide) ?_
  refine n_iadd hx hb dX0_written_32 ?_
  refine lv_iconst (v := (-1)) hx hb dX0_written_33 (by decide) ?_
  refine g_sast (f := upd (σ 0) (2 * N) (-1)) (ws' := WX h ad d (su (su (su (su σ 5 0 (nI (511 - N))) 3 N (σ 7 0)) 0 (2 * N) (-1)) 0 ((2 * N) + 1) (-1))) E w 1 0 rfl rfl (by omega) (by decide) (ns_m1) rfl dX0_written_34 (fun H locs w => ?_)
  refine lv_aload_n hx hb dX0_written_35 rfl (lv_at hl 2 rfl) ?_
  refine x_get (v := .ref (ad 1)) E w 1 (by decide) q31 rfl dX0_written_36 ?_
  refine lv_iload hx hb dX0_written_39 (lv_at hl 0 rfl) ?_
  refine lv_aload_n hx hb dX0_written_41 rfl (lv_at hl 2 rfl) ?_
  refine x_get (v := .ref (ad 15)) E w 15 (by decide) q45 rfl dX0_written_42 ?_
  refine lv_iload_n hx hb dX0_written_45 rfl (lv_at hl 4 rfl) ?_
  refine g_iald (f := σ 15) E w 14 13 rfl rfl (by omega) (by decide) dX0_written_46 ?_
  refine g_iast (f := σ 1) (ws' := WX h ad d (su (su (su (su (su σ 5 0 (nI (511 - N))) 3 N (σ 7 0)) 0 (2 * N) (-1)) 0 ((2 * N) + 1) (-1)) 1 (N) (σ 15 (y)))) E w 2 1 rfl rfl (by omega) (by decide) rfl dX0_written_47 (fun H locs w => ?_)
  refine lv_aload_n hx hb dX0_written_48 rfl (lv_at hl 2 rfl) ?_
  refine x_get (v := .ref (ad 2)) E w 2 (by decide) q32 rfl dX0_written_49 ?_
  refine lv_iload hx hb dX0_written_52 (lv_at hl 0 rfl) ?_
  refine lv_aload_n hx hb dX0_written_54 rfl (lv_at hl 2 rfl) ?_
  refine x_get (v := .ref (ad 16)) E w 16 (by decide) q46 rfl dX0_written_55 ?_
  refine lv_iload_n hx hb dX0_written_58 rfl (lv_at hl 4 rfl) ?_
  refine g_zald (f := σ 16) E w 15 14 rfl rfl (by omega) (by decide) dX0_written_59 ?_
  refine g_zast (f := σ 2) (ws' := WX h ad d (su (su (su (su (su (su σ 5 0 (nI (511 - N))) 3 N (σ 7 0)) 0 (2 * N) (-1)) 0 ((2 * N) + 1) (-1)) 1 (N) (σ 15 (y))) 2 (N) (σ 16 (y)))) E w 3 2 rfl rfl (by omega) (by decide) (h16) rfl dX0_written_60 (fun H locs w => ?_)
  refine lv_aload_n hx hb dX0_written_61 rfl (lv_at hl 2 rfl) ?_
  refine lv_iconst (v := (nI (0))) hx hb dX0_written_62 (by decide) ?_
  refine x_put (σ' := (su (su (su (su (su (su (su σ 5 0 (nI (511 - N))) 3 N (σ 7 0)) 0 (2 * N) (-1)) 0 ((2 * N) + 1) (-1)) 1 (N) (σ 15 (y))) 2 (N) (σ 16 (y))) 20 0 (nI (0)))) E w 20 (by decide) q50 rfl (by decide +kernel) rfl dX0_written_63 (fun H locs w => ?_)
  refine lv_iload_n hx hb dX0_written_66 rfl (lv_at hl 3 rfl) ?_
  refine lv_istore (lv' := [(5, .int (x)), (4, .int (nI (N))), (3, .int (nI (k))), (0, .ref h), (1, .int (x)), (2, .int (nI (y)))]) hx hb dX0_written_67 hl (by decide) rfl (fun ls hl => ?_)
  refine lv_iconst (v := (nI (4))) hx hb dX0_written_69 (by decide) ?_
  refine lv_istore (lv' := [(6, .int (nI (4))), (5, .int (x)), (4, .int (nI (N))), (3, .int (nI (k))), (0, .ref h), (1, .int (x)), (2, .int (nI (y)))]) hx hb dX0_written_70 hl (by decide) rfl (fun ls hl => ?_)
  obtain ⟨σL, hσL⟩ : ∃ z, z = (su (su (su (su (su (su (su σ 5 0 (nI (511 - N))) 3 N (σ 7 0)) 0 (2 * N) (-1)) 0 ((2 * N) + 1) (-1)) 1 (N) (σ 15 (y))) 2 (N) (σ 16 (y))) 20 0 (nI (0))) := ⟨_, rfl⟩
  rw [← hσL] at w
  have fL0 : σL 0 = upd (upd (σ 0) (2 * N) (-1)) (2 * N + 1) (-1) := by rw [hσL]; rfl
  have fL1 : σL 1 = upd (σ 1) N (σ 15 y) := by rw [hσL]; rfl
  have fL2 : σL 2 = upd (σ 2) N (σ 16 y) := by rw [hσL]; rfl
  have fL3 : σL 3 = upd (σ 3) N (σ 7 0) := by rw [hσL]; rfl
  have fL5 : σL 5 0 = nI (511 - N) := by rw [hσL]; rfl
  have fL20 : σL 20 0 = nI 0 := by rw [hσL]; rfl
  have fLa : ∀ a, a < 17 → a ≠ 0 → a ≠ 1 → a ≠ 2 → a ≠ 3 → a ≠ 5 → σL a = σ a := fun a h h0 h1 h2 h3 h5 => by
    rw [hσL, su_ne _ _ _ (by omega), su_ne _ _ _ h2, su_ne _ _ _ h1, su_ne _ _ _ h0, su_ne _ _ _ h0, su_ne _ _ _ h3, su_ne _ _ _ h5]
  clear hσL
  have loop2 : ∀ (u b : Nat), b + u = 5 → ∀ (σ2 : ST), (∀ a, a < 17 → a ≠ 0 → a ≠ 3 → a ≠ 5 → σ2 a = σL a) → σ2 5 0 = nI (511 - N - b) → σ2 20 0 = nI (5 - b) → (∀ j, j < 5 → σ2 17 j = pth (σ 0) x k j) → PB (σ 0) (σ 3) N x k (σ 7 0) b (σ2 0) (σ2 3) → ∀ (H : Heap) (locs : List Loc) (ls : Array Slot), GW D A s.heap s (tX d) (WX h ad d σ2) H locs → lv_has ls 11 [(7, .int (nI (b))), (6, .int (nI (N + b))), (4, .int (nI (N))), (3, .int (nI (k))), (0, .ref h), (1, .int (x)), (2, .int (nI (y)))] → W p l e (rm 1) s m args below meth c H locs 0 0 Q (F0 m 135 ls []) := by
    intro u
    induction u with
    | zero =>
      intro b hb5 σ2 hr h5 h20 h17 hPB H locs ls w hl
      have eb : b = 5 := by omega
      subst eb
      have hP5 := PB_5 hk hPB
      refine lv_iload hx hb dX0_written_135 (lv_at hl 0 rfl) ?_
      refine lv_iconst (v := (nI (5))) hx hb dX0_written_137 (by decide) ?_
      refine lv_icmp_ge (tgt := 238) hx hb dX0_written_138 (by decide) (fun _ => ?_) (fun hn => absurd (nI_le (by omega) (by omega)) hn)
      refine lv_iload hx hb dX0_written_238 (lv_at hl 1 rfl) ?_
      exact ret _ _ _ _ _ _ (⟨rfl, fun a h h0 h1 h2 h3 h5 => (hr a h h0 h3 h5).trans (fLa a h h0 h1 h2 h3 h5), h5.trans (congrArg nI (by omega)), hPB.1, fun i hi => ⟨by rw [hr 1 (by decide) (by decide) (by decide) (by decide), fL1, pk_un (by omega)], by rw [hr 2 (by decide) (by decide) (by decide) (by decide), fL2, pk_un (by omega)], hPB.2.1 i hi⟩, fun i h1 h2 => hPB.2.2.1 i h1 (by omega), by rw [hr 1 (by decide) (by decide) (by decide) (by decide), fL1, pk_us], by rw [hr 2 (by decide) (by decide) (by decide) (by decide), fL2, pk_us], hP5.1, hP5.2⟩) w dX0_written_240
    | succ u ih =>
      intro b hb5 σ2 hr h5 h20 h17 hPB H locs ls w hl
      have hbt : k / 2 ^ b % 2 < 2 := Nat.mod_lt _ (by decide)
      have hTp := TV_pth (by omega) hT k (4 - b) (by omega)
      rw [show 5 - (4 - b) = b + 1 by omega] at hTp
      have h7 : σ2 7 0 = σ 7 0 := by rw [hr 7 (by decide) (by decide) (by decide) (by decide), fLa 7 (by decide) (by decide) (by decide) (by decide) (by decide) (by decide)]
      have h62 : ∀ j, j < 512 → σ2 6 j = nI (511 - j) := fun j hj => by rw [hr 6 (by decide) (by decide) (by decide) (by decide), fLa 6 (by decide) (by decide) (by decide) (by decide) (by decide) (by decide)]; exact h6 j hj
      refine lv_iload hx hb dX0_written_135 (lv_at hl 0 rfl) ?_
      refine lv_iconst (v := (nI (5))) hx hb dX0_written_137 (by decide) ?_
      refine lv_icmp_ge (tgt := 238) hx hb dX0_written_138 (by decide) (fun hn => absurd hn (nI_ge (by omega) (by omega))) (fun _ => ?_)
      refine lv_aload_n hx hb dX0_written_141 rfl (lv_at hl 4 rfl) ?_
      refine lv_dup hx hb dX0_written_142 rfl ?_
      refine x_get (v := .int (σ2 20 0)) E w 20 (by decide) q50 rfl dX0_written_143 ?_
      refine g_eq (y := (nI (5 - b))) (h20) ?_
      refine lv_iconst (v := (nI (1))) hx hb dX0_written_146 (by decide) ?_
      refine n_isub (by omega) hx hb dX0_written_147 ?_
      refine g_eq (y := (nI (4 - b))) (congrArg nI (by omega)) ?_
      refine x_put (σ' := (su σ2 20 0 (nI (4 - b)))) E w 20 (by decide) q50 rfl (by decide +kernel) rfl dX0_written_148 (fun H locs w => ?_)
      refine lv_aload_n hx hb dX0_written_151 rfl (lv_at hl 4 rfl) ?_
      refine x_get (v := .ref (ad 17)) E w 17 (by decide) q47 rfl dX0_written_152 ?_
      refine lv_aload_n hx hb dX0_written_155 rfl (lv_at hl 4 rfl) ?_
      refine x_get (v := .int (nI (4 - b))) E w 20 (by decide) q50 rfl dX0_written_156 ?_
      refine g_sald (f := σ2 17) E w 16 15 rfl rfl (by omega) (by decide) dX0_written_159 ?_
      rcases hTp.cs with e1 | ⟨q, hq, e1⟩
      · refine g_eq (y := (-1)) ((h17 _ (by omega)).trans e1) ?_
        refine lv_istore (lv' := [(8, .int (-1)), (7, .int (nI (b))), (6, .int (nI (N + b))), (4, .int (nI (N))), (3, .int (nI (k))), (0, .ref h), (1, .int (x)), (2, .int (nI (y)))]) hx hb dX0_written_160 hl (by decide) rfl (fun ls hl => ?_)
        refine lv_iload_n hx hb dX0_written_162 rfl (lv_at hl 4 rfl) ?_
        refine lv_iload hx hb dX0_written_163 (lv_at hl 1 rfl) ?_
        refine lv_ishr hx hb dX0_written_165 ?_
        refine lv_iconst (v := (nI (1))) hx hb dX0_written_166 (by decide) ?_
        refine lv_iand hx hb dX0_written_167 ?_
        refine g_eq (y := (nI (k / 2 ^ b % 2))) (kbit hk (by omega)) ?_
        refine lv_istore (lv' := [(9, .int (nI (k / 2 ^ b % 2))), (8, .int (-1)), (7, .int (nI (b))), (6, .int (nI (N + b))), (4, .int (nI (N))), (3, .int (nI (k))), (0, .ref h), (1, .int (x)), (2, .int (nI (y)))]) hx hb dX0_written_168 hl (by decide) rfl (fun ls hl => ?_)
        refine lv_aload_n hx hb dX0_written_170 rfl (lv_at hl 6 rfl) ?_
        refine k_calli (ci := 0) (C := RX0) (T := TX0) (N := 21) (x_newNode (su σ2 20 0 (nI (4 - b))) (510 - N - b) (N + b + 1) (h5.trans (congrArg nI (by omega))) (by omega) ((h62 _ (by omega)).trans (congrArg nI (by omega))) (by omega)) E w q166 q168 qs10 q20 q169 rfl rfl 0 rfl (by decide +kernel) ⟨Nat.le_of_ble_eq_true rfl, Nat.le_of_ble_eq_true rfl⟩ hl.1 rfl (Nat.le_of_ble_eq_true rfl) dX0_written_171 ⟨Nat.zero_le _, Nat.zero_le _⟩ (fun r_171 σ_171 H locs hp_171 w => ?_)
        obtain ⟨e2, e3⟩ := hp_171
        rw [e3, show (su σ2 20 0 (nI (4 - b))) 7 0 = σ 7 0 from h7] at w
        refine g_eq (y := (nI (N + b + 1))) (e2) ?_
        refine lv_istore (lv' := [(10, .int (nI (N + b + 1))), (9, .int (nI (k / 2 ^ b % 2))), (8, .int (-1)), (7, .int (nI (b))), (6, .int (nI (N + b))), (4, .int (nI (N))), (3, .int (nI (k))), (0, .ref h), (1, .int (x)), (2, .int (nI (y)))]) hx hb dX0_written_174 hl (by decide) rfl (fun ls hl => ?_)
        refine lv_aload_n hx hb dX0_written_176 rfl (lv_at hl 7 rfl) ?_
        refine x_get (v := .ref (ad 0)) E w 0 (by decide) q30 rfl dX0_written_177 ?_
        refine lv_iconst (v := (nI (2))) hx hb dX0_written_180 (by decide) ?_
        refine lv_iload hx hb dX0_written_181 (lv_at hl 0 rfl) ?_
        refine n_imul hx hb dX0_written_183 ?_
        refine lv_iload hx hb dX0_written_184 (lv_at hl 1 rfl) ?_
        refine n_iadd hx hb dX0_written_186 ?_
        refine lv_iload hx hb dX0_written_187 (lv_at hl 4 rfl) ?_
        refine lv_i2s (v := (nI (N + b))) hx hb dX0_written_189 (ns_i2s (by omega)) ?_
        refine g_sast (f := σ2 0) (ws' := WX h ad d (su (su (su (su σ2 20 0 (nI (4 - b))) 5 0 (nI (510 - N - b))) 3 (N + b + 1) (σ 7 0)) 0 (2 * (N + b + 1) + k / 2 ^ b % 2) (nI (N + b)))) E w 1 0 rfl rfl (by omega) (by decide) (ns_small (by omega)) rfl dX0_written_190 (fun H locs w => ?_)
        refine lv_aload_n hx hb dX0_written_191 rfl (lv_at hl 7 rfl) ?_
        refine x_get (v := .ref (ad 0)) E w 0 (by decide) q30 rfl dX0_written_192 ?_
        refine lv_iconst (v := (nI (2))) hx hb dX0_written_195 (by decide) ?_
        refine lv_iload hx hb dX0_written_196 (lv_at hl 0 rfl) ?_
        refine n_imul hx hb dX0_written_198 ?_
        refine lv_iconst (v := (nI (1))) hx hb dX0_written_199 (by decide) ?_
        refine n_iadd hx hb dX0_written_200 ?_
        refine lv_iload hx hb dX0_written_201 (lv_at hl 1 rfl) ?_
        refine n_isub (by omega) hx hb dX0_written_203 ?_
        refine g_eq (y := (nI (2 * (N + b + 1) + (1 - k / 2 ^ b % 2)))) (congrArg nI (by omega)) ?_
        refine lv_iload hx hb dX0_written_204 (lv_at hl 2 rfl) ?_
        refine lv_if_ge (tgt := 213) hx hb dX0_written_206 (by decide) (fun hn => absurd hn (by decide)) (fun _ => ?_)
        refine lv_iconst (v := (-1)) hx hb dX0_written_209 (by decide) ?_
        refine lv_goto (tgt := 227) hx hb dX0_written_210 (by decide) ?_
        refine g_sast (f := upd (σ2 0) (2 * (N + b + 1) + k / 2 ^ b % 2) (nI (N + b))) (ws' := WX h ad d (su (su (su (su (su σ2 20 0 (nI (4 - b))) 5 0 (nI (510 - N - b))) 3 (N + b + 1) (σ 7 0)) 0 (2 * (N + b + 1) + k / 2 ^ b % 2) (nI (N + b))) 0 (2 * (N + b + 1) + (1 - k / 2 ^ b % 2)) (-1))) E w 1 0 rfl rfl (by omega) (by decide) (ns_m1) rfl dX0_written_227 (fun H locs w => ?_)
        refine lv_iload hx hb dX0_written_228 (lv_at hl 0 rfl) ?_
        refine lv_istore (lv' := [(6, .int (nI (N + b + 1))), (10, .int (nI (N + b + 1))), (9, .int (nI (k / 2 ^ b % 2))), (8, .int (-1)), (7, .int (nI (b))), (4, .int (nI (N))), (3, .int (nI (k))), (0, .ref h), (1, .int (x)), (2, .int (nI (y)))]) hx hb dX0_written_230 hl (by decide) rfl (fun ls hl => ?_)
        refine lv_iinc (v := (nI (b + 1))) (lv' := [(7, .int (nI (b + 1))), (6, .int (nI (N + b + 1))), (10, .int (nI (N + b + 1))), (9, .int (nI (k / 2 ^ b % 2))), (8, .int (-1)), (4, .int (nI (N))), (3, .int (nI (k))), (0, .ref h), (1, .int (x)), (2, .int (nI (y)))]) hx hb dX0_written_232 hl (k := 4) rfl (nI_1 (b)) (by decide) rfl (fun ls hl => ?_)
        refine lv_goto (tgt := 135) hx hb dX0_written_235 (by decide) ?_
        have hPB2 : PB (σ 0) (σ 3) N x k (σ 7 0) (b + 1) (upd (upd (σ2 0) (2 * (N + b + 1) + k / 2 ^ b % 2) (nI (N + b))) (2 * (N + b + 1) + (1 - k / 2 ^ b % 2)) (-1)) (upd (σ2 3) (N + b + 1) (σ 7 0)) := PB_s (by omega) hN hT hst hPB (fun i hi => by rw [pk_un (by omega), pk_un (by omega)]) (fun i hi => pk_un (by omega)) pk_us (by rw [pk_un (by omega), pk_us]) (by rw [pk_us, e1]; rfl)
        exact ih (b + 1) (by omega) (su (su (su (su (su σ2 20 0 (nI (4 - b))) 5 0 (nI (510 - N - b))) 3 (N + b + 1) (σ 7 0)) 0 (2 * (N + b + 1) + k / 2 ^ b % 2) (nI (N + b))) 0 (2 * (N + b + 1) + (1 - k / 2 ^ b % 2)) (-1)) (fun a h h0 h3 h5 => by rw [su_ne _ _ _ h0, su_ne _ _ _ h0, su_ne _ _ _ h3, su_ne _ _ _ h5, su_ne _ _ _ (by omega)]; exact hr a h h0 h3 h5) (congrArg nI (show 510 - N - b = 511 - N - (b + 1) by omega)) (congrArg nI (show 4 - b = 5 - (b + 1) by omega)) h17 hPB2 H locs ls w (lv_sub hl [0, 1, 5, 6, 7, 8, 9] rfl)
      · refine g_eq (y := (nI (q))) ((h17 _ (by omega)).trans e1) ?_
        refine lv_istore (lv' := [(8, .int (nI (q))), (7, .int (nI (b))), (6, .int (nI (N + b))), (4, .int (nI (N))), (3, .int (nI (k))), (0, .ref h), (1, .int (x)), (2, .int (nI (y)))]) hx hb dX0_written_160 hl (by decide) rfl (fun ls hl => ?_)
        refine lv_iload_n hx hb dX0_written_162 rfl (lv_at hl 4 rfl) ?_
        refine lv_iload hx hb dX0_written_163 (lv_at hl 1 rfl) ?_
        refine lv_ishr hx hb dX0_written_165 ?_
        refine lv_iconst (v := (nI (1))) hx hb dX0_written_166 (by decide) ?_
        refine lv_iand hx hb dX0_written_167 ?_
        refine g_eq (y := (nI (k / 2 ^ b % 2))) (kbit hk (by omega)) ?_
        refine lv_istore (lv' := [(9, .int (nI (k / 2 ^ b % 2))), (8, .int (nI (q))), (7, .int (nI (b))), (6, .int (nI (N + b))), (4, .int (nI (N))), (3, .int (nI (k))), (0, .ref h), (1, .int (x)), (2, .int (nI (y)))]) hx hb dX0_written_168 hl (by decide) rfl (fun ls hl => ?_)
        refine lv_aload_n hx hb dX0_written_170 rfl (lv_at hl 6 rfl) ?_
        refine k_calli (ci := 0) (C := RX0) (T := TX0) (N := 21) (x_newNode (su σ2 20 0 (nI (4 - b))) (510 - N - b) (N + b + 1) (h5.trans (congrArg nI (by omega))) (by omega) ((h62 _ (by omega)).trans (congrArg nI (by omega))) (by omega)) E w q166 q168 qs10 q20 q169 rfl rfl 0 rfl (by decide +kernel) ⟨Nat.le_of_ble_eq_true rfl, Nat.le_of_ble_eq_true rfl⟩ hl.1 rfl (Nat.le_of_ble_eq_true rfl) dX0_written_171 ⟨Nat.zero_le _, Nat.zero_le _⟩ (fun r_171 σ_171 H locs hp_171 w => ?_)
        obtain ⟨e2, e3⟩ := hp_171
        rw [e3, show (su σ2 20 0 (nI (4 - b))) 7 0 = σ 7 0 from h7] at w
        refine g_eq (y := (nI (N + b + 1))) (e2) ?_
        refine lv_istore (lv' := [(10, .int (nI (N + b + 1))), (9, .int (nI (k / 2 ^ b % 2))), (8, .int (nI (q))), (7, .int (nI (b))), (6, .int (nI (N + b))), (4, .int (nI (N))), (3, .int (nI (k))), (0, .ref h), (1, .int (x)), (2, .int (nI (y)))]) hx hb dX0_written_174 hl (by decide) rfl (fun ls hl => ?_)
        refine lv_aload_n hx hb dX0_written_176 rfl (lv_at hl 7 rfl) ?_
        refine x_get (v := .ref (ad 0)) E w 0 (by decide) q30 rfl dX0_written_177 ?_
        refine lv_iconst (v := (nI (2))) hx hb dX0_written_180 (by decide) ?_
        refine lv_iload hx hb dX0_written_181 (lv_at hl 0 rfl) ?_
        refine n_imul hx hb dX0_written_183 ?_
        refine lv_iload hx hb dX0_written_184 (lv_at hl 1 rfl) ?_
        refine n_iadd hx hb dX0_written_186 ?_
        refine lv_iload hx hb dX0_written_187 (lv_at hl 4 rfl) ?_
        refine lv_i2s (v := (nI (N + b))) hx hb dX0_written_189 (ns_i2s (by omega)) ?_
        refine g_sast (f := σ2 0) (ws' := WX h ad d (su (su (su (su σ2 20 0 (nI (4 - b))) 5 0 (nI (510 - N - b))) 3 (N + b + 1) (σ 7 0)) 0 (2 * (N + b + 1) + k / 2 ^ b % 2) (nI (N + b)))) E w 1 0 rfl rfl (by omega) (by decide) (ns_small (by omega)) rfl dX0_written_190 (fun H locs w => ?_)
        refine lv_aload_n hx hb dX0_written_191 rfl (lv_at hl 7 rfl) ?_
        refine x_get (v := .ref (ad 0)) E w 0 (by decide) q30 rfl dX0_written_192 ?_
        refine lv_iconst (v := (nI (2))) hx hb dX0_written_195 (by decide) ?_
        refine lv_iload hx hb dX0_written_196 (lv_at hl 0 rfl) ?_
        refine n_imul hx hb dX0_written_198 ?_
        refine lv_iconst (v := (nI (1))) hx hb dX0_written_199 (by decide) ?_
        refine n_iadd hx hb dX0_written_200 ?_
        refine lv_iload hx hb dX0_written_201 (lv_at hl 1 rfl) ?_
        refine n_isub (by omega) hx hb dX0_written_203 ?_
        refine g_eq (y := (nI (2 * (N + b + 1) + (1 - k / 2 ^ b % 2)))) (congrArg nI (by omega)) ?_
        rw [e1] at hTp
        obtain ⟨hTq, -, -⟩ := hTp.kid (by omega) (by omega) (b := 1 - k / 2 ^ b % 2) (by omega)
        refine lv_iload hx hb dX0_written_204 (lv_at hl 2 rfl) ?_
        refine lv_if_ge (tgt := 213) hx hb dX0_written_206 (by decide) (fun _ => ?_) (fun hn => absurd (nI_pos' (by omega)) hn)
        refine lv_aload_n hx hb dX0_written_213 rfl (lv_at hl 7 rfl) ?_
        refine x_get (v := .ref (ad 0)) E w 0 (by decide) q30 rfl dX0_written_214 ?_
        refine lv_iconst (v := (nI (2))) hx hb dX0_written_217 (by decide) ?_
        refine lv_iload hx hb dX0_written_218 (lv_at hl 2 rfl) ?_
        refine n_imul hx hb dX0_written_220 ?_
        refine lv_iconst (v := (nI (1))) hx hb dX0_written_221 (by decide) ?_
        refine n_iadd hx hb dX0_written_222 ?_
        refine lv_iload hx hb dX0_written_223 (lv_at hl 1 rfl) ?_
        refine n_isub (by omega) hx hb dX0_written_225 ?_
        refine g_eq (y := (nI (2 * q + (1 - k / 2 ^ b % 2)))) (congrArg nI (by omega)) ?_
        refine g_sald (f := upd (σ2 0) (2 * (N + b + 1) + k / 2 ^ b % 2) (nI (N + b))) E w 1 0 rfl rfl (by omega) (by decide) dX0_written_226 ?_
        refine g_eq (y := (σ 0 (2 * q + (1 - k / 2 ^ b % 2)))) (by rw [pk_un (by omega), hPB.1 _ (by omega)]) ?_
        refine g_sast (f := upd (σ2 0) (2 * (N + b + 1) + k / 2 ^ b % 2) (nI (N + b))) (ws' := WX h ad d (su (su (su (su (su σ2 20 0 (nI (4 - b))) 5 0 (nI (510 - N - b))) 3 (N + b + 1) (σ 7 0)) 0 (2 * (N + b + 1) + k / 2 ^ b % 2) (nI (N + b))) 0 (2 * (N + b + 1) + (1 - k / 2 ^ b % 2)) (σ 0 (2 * q + (1 - k / 2 ^ b % 2))))) E w 1 0 rfl rfl (by omega) (by decide) ((ns_tv (by omega) hTq).1) rfl dX0_written_227 (fun H locs w => ?_)
        refine lv_iload hx hb dX0_written_228 (lv_at hl 0 rfl) ?_
        refine lv_istore (lv' := [(6, .int (nI (N + b + 1))), (10, .int (nI (N + b + 1))), (9, .int (nI (k / 2 ^ b % 2))), (8, .int (nI (q))), (7, .int (nI (b))), (4, .int (nI (N))), (3, .int (nI (k))), (0, .ref h), (1, .int (x)), (2, .int (nI (y)))]) hx hb dX0_written_230 hl (by decide) rfl (fun ls hl => ?_)
        refine lv_iinc (v := (nI (b + 1))) (lv' := [(7, .int (nI (b + 1))), (6, .int (nI (N + b + 1))), (10, .int (nI (N + b + 1))), (9, .int (nI (k / 2 ^ b % 2))), (8, .int (nI (q))), (4, .int (nI (N))), (3, .int (nI (k))), (0, .ref h), (1, .int (x)), (2, .int (nI (y)))]) hx hb dX0_written_232 hl (k := 4) rfl (nI_1 (b)) (by decide) rfl (fun ls hl => ?_)
        refine lv_goto (tgt := 135) hx hb dX0_written_235 (by decide) ?_
        have hPB2 : PB (σ 0) (σ 3) N x k (σ 7 0) (b + 1) (upd (upd (σ2 0) (2 * (N + b + 1) + k / 2 ^ b % 2) (nI (N + b))) (2 * (N + b + 1) + (1 - k / 2 ^ b % 2)) (σ 0 (2 * q + (1 - k / 2 ^ b % 2)))) (upd (σ2 3) (N + b + 1) (σ 7 0)) := PB_s (by omega) hN hT hst hPB (fun i hi => by rw [pk_un (by omega), pk_un (by omega)]) (fun i hi => pk_un (by omega)) pk_us (by rw [pk_un (by omega), pk_us]) (by rw [pk_us, e1, if_neg (nI_pos (by omega)), nI_clamp (by omega)])
        exact ih (b + 1) (by omega) (su (su (su (su (su σ2 20 0 (nI (4 - b))) 5 0 (nI (510 - N - b))) 3 (N + b + 1) (σ 7 0)) 0 (2 * (N + b + 1) + k / 2 ^ b % 2) (nI (N + b))) 0 (2 * (N + b + 1) + (1 - k / 2 ^ b % 2)) (σ 0 (2 * q + (1 - k / 2 ^ b % 2)))) (fun a h h0 h3 h5 => by rw [su_ne _ _ _ h0, su_ne _ _ _ h0, su_ne _ _ _ h3, su_ne _ _ _ h5, su_ne _ _ _ (by omega)]; exact hr a h h0 h3 h5) (congrArg nI (show 510 - N - b = 511 - N - (b + 1) by omega)) (congrArg nI (show 4 - b = 5 - (b + 1) by omega)) h17 hPB2 H locs ls w (lv_sub hl [0, 1, 5, 6, 7, 8, 9] rfl)
  have loop1 : ∀ (u : Nat), u ≤ 5 → ∀ (σ1 : ST), (∀ a, a < 17 → σ1 a = σL a) → σ1 20 0 = nI (5 - u) → (∀ j, j < 5 - u → σ1 17 j = pth (σ 0) x k j) → ∀ (H : Heap) (locs : List Loc) (ls : Array Slot), GW D A s.heap s (tX d) (WX h ad d σ1) H locs → lv_has ls 11 [(6, .int (bitv u)), (5, .int (pth (σ 0) x k (5 - u))), (4, .int (nI (N))), (3, .int (nI (k))), (0, .ref h), (1, .int (x)), (2, .int (nI (y)))] → W p l e (rm 1) s m args below meth c H locs 0 0 Q (F0 m 72 ls []) := by
    intro u
    induction u with
    | zero =>
      intro hu σ1 hr h20 h17 H locs ls w hl
      have hl : lv_has ls 11 [(6, .int (-1)), (5, .int (pth (σ 0) x k (5 - 0))), (4, .int (nI (N))), (3, .int (nI (k))), (0, .ref h), (1, .int (x)), (2, .int (nI (y)))] := hl
      refine lv_iload hx hb dX0_written_72 (lv_at hl 0 rfl) ?_
      refine lv_if_lt (tgt := 128) hx hb dX0_written_74 (by decide) (fun _ => ?_) (fun hn => absurd (by decide) hn)
      refine lv_iload hx hb dX0_written_128 (lv_at hl 2 rfl) ?_
      refine lv_istore (lv' := [(6, .int (nI (N))), (5, .int (pth (σ 0) x k (5 - 0))), (4, .int (nI (N))), (3, .int (nI (k))), (0, .ref h), (1, .int (x)), (2, .int (nI (y)))]) hx hb dX0_written_130 hl (by decide) rfl (fun ls hl => ?_)
      refine lv_iconst (v := (nI (0))) hx hb dX0_written_132 (by decide) ?_
      refine lv_istore (lv' := [(7, .int (nI (0))), (6, .int (nI (N))), (5, .int (pth (σ 0) x k (5 - 0))), (4, .int (nI (N))), (3, .int (nI (k))), (0, .ref h), (1, .int (x)), (2, .int (nI (y)))]) hx hb dX0_written_133 hl (by decide) rfl (fun ls hl => ?_)
      have hPB : PB (σ 0) (σ 3) N x k (σ 7 0) 0 (σ1 0) (σ1 3) := PB_0 hN (fun i hi => by rw [hr 0 (by decide), fL0, pk_un (by omega), pk_un (by omega)]) (fun i hi => by rw [hr 3 (by decide), fL3, pk_un (by omega)]) (by rw [hr 3 (by decide), fL3, pk_us])
      exact loop2 5 0 rfl σ1 (fun a h _ _ _ => hr a h) (by rw [hr 5 (by decide)]; exact fL5) h20 h17 hPB H locs ls w (lv_sub hl [0, 1, 3, 4, 5, 6, 7] rfl)
    | succ u ih =>
      intro hu σ1 hr h20 h17 H locs ls w hl
      have hl : lv_has ls 11 [(6, .int (nI (u))), (5, .int (pth (σ 0) x k (5 - (u + 1)))), (4, .int (nI (N))), (3, .int (nI (k))), (0, .ref h), (1, .int (x)), (2, .int (nI (y)))] := hl
      have hTp := TV_pth (by omega) hT k (5 - (u + 1)) (by omega)
      rw [show 5 - (5 - (u + 1)) = u + 1 by omega] at hTp
      refine lv_iload hx hb dX0_written_72 (lv_at hl 0 rfl) ?_
      refine lv_if_lt (tgt := 128) hx hb dX0_written_74 (by decide) (fun hn => absurd hn (nI_pos (by omega))) (fun _ => ?_)
      refine lv_aload_n hx hb dX0_written_77 rfl (lv_at hl 4 rfl) ?_
      refine x_get (v := .ref (ad 17)) E w 17 (by decide) q47 rfl dX0_written_78 ?_
      refine lv_aload_n hx hb dX0_written_81 rfl (lv_at hl 4 rfl) ?_
      refine x_get (v := .int (σ1 20 0)) E w 20 (by decide) q50 rfl dX0_written_82 ?_
      refine g_eq (y := (nI (5 - (u + 1)))) (h20) ?_
      refine lv_iload hx hb dX0_written_85 (lv_at hl 1 rfl) ?_
      refine lv_i2s (v := (pth (σ 0) x k (5 - (u + 1)))) hx hb dX0_written_87 ((ns_tv (by omega) hTp).2) ?_
      refine g_sast (f := σ1 17) (ws' := WX h ad d (su σ1 17 (5 - (u + 1)) (pth (σ 0) x k (5 - (u + 1))))) E w 16 15 rfl rfl (by omega) (by decide) ((ns_tv (by omega) hTp).1) rfl dX0_written_88 (fun H locs w => ?_)
      refine lv_aload_n hx hb dX0_written_89 rfl (lv_at hl 4 rfl) ?_
      refine lv_dup hx hb dX0_written_90 rfl ?_
      refine x_get (v := .int (σ1 20 0)) E w 20 (by decide) q50 rfl dX0_written_91 ?_
      refine g_eq (y := (nI (5 - (u + 1)))) (h20) ?_
      refine lv_iconst (v := (nI (1))) hx hb dX0_written_94 (by decide) ?_
      refine n_iadd hx hb dX0_written_95 ?_
      refine g_eq (y := (nI (5 - u))) (congrArg nI (by omega)) ?_
      refine x_put (σ' := (su (su σ1 17 (5 - (u + 1)) (pth (σ 0) x k (5 - (u + 1)))) 20 0 (nI (5 - u)))) E w 20 (by decide) q50 rfl (by decide +kernel) rfl dX0_written_96 (fun H locs w => ?_)
      have hr2 : ∀ a, a < 17 → (su (su σ1 17 (5 - (u + 1)) (pth (σ 0) x k (5 - (u + 1)))) 20 0 (nI (5 - u))) a = σL a := fun a ha => by rw [su_ne _ _ _ (by omega), su_ne _ _ _ (by omega)]; exact hr a ha
      have h172 : ∀ j, j < 5 - u → (su (su σ1 17 (5 - (u + 1)) (pth (σ 0) x k (5 - (u + 1)))) 20 0 (nI (5 - u))) 17 j = pth (σ 0) x k j := fun j hj => by
        show upd (σ1 17) (5 - (u + 1)) (pth (σ 0) x k (5 - (u + 1))) j = _
        by_cases e : j = 5 - (u + 1)
        · rw [e, pk_us]
        · rw [pk_un e]; exact h17 j (by omega)
      rcases hTp.cs with e1 | ⟨q, hq, e1⟩
      · refine lv_iload hx hb dX0_written_99 (lv_at hl 1 rfl) ?_
        refine lv_if_lt (tgt := 122) hx hb dX0_written_101 (by decide) (fun _ => ?_) (fun hn => absurd (by rw [e1]; decide) hn)
        refine lv_iinc (v := (bitv u)) (lv' := [(6, .int (bitv u)), (5, .int (pth (σ 0) x k (5 - (u + 1)))), (4, .int (nI (N))), (3, .int (nI (k))), (0, .ref h), (1, .int (x)), (2, .int (nI (y)))]) hx hb dX0_written_122 hl (k := 0) rfl (bitv_dec u) (by decide) rfl (fun ls hl => ?_)
        refine lv_goto (tgt := 72) hx hb dX0_written_125 (by decide) ?_
        have hpe : pth (σ 0) x k (5 - u) = pth (σ 0) x k (5 - (u + 1)) := by rw [show 5 - u = 5 - (u + 1) + 1 by omega, pth_neg (by rw [e1]; decide)]
        rw [← hpe] at hl
        exact ih (by omega) _ hr2 rfl h172 H locs ls w hl
      · refine lv_iload hx hb dX0_written_99 (lv_at hl 1 rfl) ?_
        refine lv_if_lt (tgt := 122) hx hb dX0_written_101 (by decide) (fun hn => absurd hn (by rw [e1]; exact nI_pos (by omega))) (fun _ => ?_)
        refine lv_aload_n hx hb dX0_written_104 rfl (lv_at hl 4 rfl) ?_
        refine x_get (v := .ref (ad 0)) E w 0 (by decide) q30 rfl dX0_written_105 ?_
        refine lv_iconst (v := (nI (2))) hx hb dX0_written_108 (by decide) ?_
        refine lv_iload hx hb dX0_written_109 (lv_at hl 1 rfl) ?_
        refine g_eq (y := (nI (q))) (e1) ?_
        have hbt : k / 2 ^ u % 2 < 2 := Nat.mod_lt _ (by decide)
        refine n_imul hx hb dX0_written_111 ?_
        refine lv_iload_n hx hb dX0_written_112 rfl (lv_at hl 3 rfl) ?_
        refine lv_iload hx hb dX0_written_113 (lv_at hl 0 rfl) ?_
        refine lv_ishr hx hb dX0_written_115 ?_
        refine lv_iconst (v := (nI (1))) hx hb dX0_written_116 (by decide) ?_
        refine lv_iand hx hb dX0_written_117 ?_
        refine g_eq (y := (nI (k / 2 ^ u % 2))) (kbit hk (by omega)) ?_
        refine n_iadd hx hb dX0_written_118 ?_
        refine g_sald (f := σ1 0) E w 1 0 rfl rfl (by omega) (by decide) dX0_written_119 ?_
        refine g_eq (y := (pth (σ 0) x k (5 - u))) (by rw [hr 0 (by decide), fL0, pk_un (by omega), pk_un (by omega), show 5 - u = 5 - (u + 1) + 1 by omega, pth_nd e1 (by omega), show 4 - (5 - (u + 1)) = u by omega]) ?_
        refine lv_istore (lv' := [(5, .int (pth (σ 0) x k (5 - u))), (6, .int (nI (u))), (4, .int (nI (N))), (3, .int (nI (k))), (0, .ref h), (1, .int (x)), (2, .int (nI (y)))]) hx hb dX0_written_120 hl (by decide) rfl (fun ls hl => ?_)
        refine lv_iinc (v := (bitv u)) (lv' := [(6, .int (bitv u)), (5, .int (pth (σ 0) x k (5 - u))), (4, .int (nI (N))), (3, .int (nI (k))), (0, .ref h), (1, .int (x)), (2, .int (nI (y)))]) hx hb dX0_written_122 hl (k := 1) rfl (bitv_dec u) (by decide) rfl (fun ls hl => ?_)
        refine lv_goto (tgt := 72) hx hb dX0_written_125 (by decide) ?_
        exact ih (by omega) _ hr2 rfl h172 H locs ls w hl
  exact loop1 5 (Nat.le_refl 5) σL (fun _ _ => rfl) fL20 (fun j hj => absurd hj (by omega)) H locs ls w hl
end
section
set_option maxRecDepth 100000
theorem su_cong {σ1 σ2 : ST} (h : ∀ a, a < 17 → σ1 a = σ2 a) (k i : Nat) (v : Int32) (hk : k < 17) : ∀ a, a < 17 → su σ1 k i v a = su σ2 k i v a := by
  intro a ha
  by_cases e : a = k
  · subst e
    rw [su_at, su_at, h a ha]
  · rw [su_ne _ _ _ e, su_ne _ _ _ e, h a ha]
theorem ctT_le (ch st : Nat → Int32) (q set : Int32) (l : Nat) (x : Int32) (key : Nat) : ctT ch st q set l x key ≤ 2 ^ l := fb_ct_le _ _
/-- a commit, j of its writes written: the new tree rt -/
def CmP (σ σ' : ST) (t j L N : Nat) (rt : Int32) : Prop :=
  (∀ a, a < 17 → a ≠ 0 → a ≠ 1 → a ≠ 2 → a ≠ 3 → a ≠ 5 → a ≠ 7 → a ≠ 8 → a ≠ 9 → a ≠ 11 → σ' a = σ a) ∧ σ' 9 = upd (σ 9) t (nI 0) ∧ σ' 11 = upd (σ 11) t (-1) ∧ σ' 7 0 = nI (L + 1) ∧ σ' 8 = upd (σ 8) ((L + 1) % 6) rt ∧ σ' 5 0 = nI (512 - (N + 6 * j)) ∧
  (∀ i, i < 2 * N → σ' 0 i = σ 0 i) ∧ (∀ i, i < N → σ' 1 i = σ 1 i ∧ σ' 2 i = σ 2 i ∧ σ' 3 i = σ 3 i) ∧ (∀ i, N ≤ i → i < N + 6 * j → σ' 3 i = nI (L + 1)) ∧ TV (σ' 0) (σ' 3) (N + 6 * j) 5 rt ∧
  (∀ q, q < j → ∀ k, k < 32 → σ 14 (6 * t + q) = nI k → lf (σ' 0) 5 rt k = nI (N + 6 * q) ∧ σ' 1 (N + 6 * q) = σ 15 (6 * t + q) ∧ σ' 2 (N + 6 * q) = σ 16 (6 * t + q)) ∧
  (∀ k, k < 32 → (∀ q, q < j → ¬ σ 14 (6 * t + q) = nI k) → lf (σ' 0) 5 rt k = lf (σ 0) 5 (σ 8 (L % 6)) k)
theorem CmP_s {σ σ1 σ2 : ST} {t j L N k : Nat} {rt : Int32} (h : CmP σ σ1 t j L N rt) (hk : k < 32) (hkey : σ 14 (6 * t + j) = nI k) (hdis : ∀ q, q < j → ¬ σ 14 (6 * t + q) = nI k) (hW : WrP σ1 σ2 rt (6 * t + j) k (N + 6 * j)) : CmP σ (su σ2 8 ((L + 1) % 6) (nI (N + 6 * j + 5))) t (j + 1) L N (nI (N + 6 * j + 5)) := by
  obtain ⟨a1, a9, a11, a7, a8, a5, a0, a123, a3, aT, ak, an⟩ := h
  obtain ⟨b1, b5, b0, b123, b3, bv, bh, bT, bl⟩ := hW
  have e14 : ∀ a, a = 14 ∨ a = 15 ∨ a = 16 → σ1 a = σ a := fun a ha => a1 a (by omega) (by omega) (by omega) (by omega) (by omega) (by omega) (by omega) (by omega) (by omega) (by omega)
  have e2 : ∀ a, a = 7 ∨ a = 8 ∨ a = 9 ∨ a = 11 → σ2 a = σ1 a := fun a ha => b1 a (by omega) (by omega) (by omega) (by omega) (by omega) (by omega)
  refine ⟨fun a h h0 h1 h2 h3 h5 h7 h8 h9 h11 => ?_, ?_, ?_, ?_, ?_, ?_, fun i hi => ?_, fun i hi => ?_, fun i hi hj => ?_, ?_, fun q hq k' hk' hq2 => ?_, fun k' hk' hno => ?_⟩
  · rw [su_ne _ _ _ h8, b1 a h h0 h1 h2 h3 h5, a1 a h h0 h1 h2 h3 h5 h7 h8 h9 h11]
  · rw [su_ne _ _ _ (by decide), e2 9 (by decide), a9]
  · rw [su_ne _ _ _ (by decide), e2 11 (by decide), a11]
  · rw [su_ne _ _ _ (by decide), e2 7 (by decide), a7]
  · rw [su_at, e2 8 (by decide), a8, fa_upd_twice]
  · rw [su_ne _ _ _ (by decide), b5]
    exact congrArg nI (by omega)
  · rw [su_ne _ _ _ (by decide), b0 i (by omega), a0 i hi]
  · rw [su_ne _ _ _ (by decide), su_ne _ _ _ (by decide), su_ne _ _ _ (by decide)]
    obtain ⟨z1, z2, z3⟩ := b123 i (by omega)
    obtain ⟨y1, y2, y3⟩ := a123 i hi
    exact ⟨z1.trans y1, z2.trans y2, z3.trans y3⟩
  · rw [su_ne _ _ _ (by decide)]
    rcases Nat.lt_or_ge i (N + 6 * j) with g | g
    · rw [(b123 i g).2.2]
      exact a3 i hi g
    · rw [b3 i g (by omega), a7]
  · rw [su_ne _ _ _ (by decide), su_ne _ _ _ (by decide), show N + 6 * (j + 1) = N + 6 * j + 6 by omega]
    exact bT
  · rw [su_ne _ _ _ (by decide), su_ne _ _ _ (by decide), su_ne _ _ _ (by decide)]
    rcases Nat.lt_or_ge q j with g | g
    · have hne : k' ≠ k := fun e => hdis q g (by rw [← e]; exact hq2)
      obtain ⟨z1, z2, z3⟩ := ak q g k' hk' hq2
      rw [bl k' hk', if_neg hne, (b123 (N + 6 * q) (by omega)).1, (b123 (N + 6 * q) (by omega)).2.1]
      exact ⟨z1, z2, z3⟩
    · have e : q = j := by omega
      subst e
      have e2 := nI_inj (by omega) (by omega) (hq2.symm.trans hkey)
      subst e2
      rw [bl k' hk', if_pos rfl, bv, bh, e14 15 (by decide), e14 16 (by decide)]
      exact ⟨rfl, rfl, rfl⟩
  · rw [su_ne _ _ _ (by decide)]
    have hne : k' ≠ k := fun e => hno j (by omega) (by rw [e]; exact hkey)
    rw [bl k' hk', if_neg hne]
    exact an k' hk' (fun q hq => hno q (by omega))
set_option maxHeartbeats 4000000 in
set_option maxRecDepth 100000 in
theorem x_changed_bad (σ : ST) (x y : Int32) (L : Nat) (hL : σ 7 0 = nI L) (hL2 : L < 1000) (hbad : x < 0 ∨ y < 0 ∨ nI L < x ∨ nI L < y ∨ ¬ x < y) : KMi WX tX yX0_changed cX0_changed 3 (some .int) 2 [.int (x), .int (y)] σ (fun r σ' => r = -1 ∧ σ' = σ) := by
  refine KMi.ofI (own := RX0) (by decide +kernel) rfl (fun _ => Nat.le_of_ble_eq_true rfl) ?_
  intro p l e s m args below meth c D h ad d A ls Q E w ret hl
  have hx := E.1
  have hb := E.2.1
  have hl : lv_has ls 3 [(0, .ref h), (1, .int (x)), (2, .int (y))] := hl
  refine lv_iload_n hx hb dX0_changed_0 rfl (lv_at hl 1 rfl) ?_
  refine lv_if_lt (tgt := 29) hx hb dX0_changed_1 (by decide) (fun c1 => ?_) (fun c1 => ?_)
  · refine lv_iconst (v := (-1)) hx hb dX0_changed_29 (by decide) ?_
    exact ret _ _ _ _ _ _ (⟨rfl, rfl⟩) w dX0_changed_30
  · refine lv_iload_n hx hb dX0_changed_4 rfl (lv_at hl 2 rfl) ?_
    refine lv_if_lt (tgt := 29) hx hb dX0_changed_5 (by decide) (fun c2 => ?_) (fun c2 => ?_)
    · refine lv_iconst (v := (-1)) hx hb dX0_changed_29 (by decide) ?_
      exact ret _ _ _ _ _ _ (⟨rfl, rfl⟩) w dX0_changed_30
    · refine lv_iload_n hx hb dX0_changed_8 rfl (lv_at hl 1 rfl) ?_
      refine lv_aload_n hx hb dX0_changed_9 rfl (lv_at hl 0 rfl) ?_
      refine x_get (v := .int (σ 7 0)) E w 7 (by decide) q37 rfl dX0_changed_10 ?_
      refine g_eq (y := (nI (L))) (hL) ?_
      refine lv_icmp_gt (tgt := 29) hx hb dX0_changed_13 (by decide) (fun c3 => ?_) (fun c3 => ?_)
      · refine lv_iconst (v := (-1)) hx hb dX0_changed_29 (by decide) ?_
        exact ret _ _ _ _ _ _ (⟨rfl, rfl⟩) w dX0_changed_30
      · refine lv_iload_n hx hb dX0_changed_16 rfl (lv_at hl 2 rfl) ?_
        refine lv_aload_n hx hb dX0_changed_17 rfl (lv_at hl 0 rfl) ?_
        refine x_get (v := .int (σ 7 0)) E w 7 (by decide) q37 rfl dX0_changed_18 ?_
        refine g_eq (y := (nI (L))) (hL) ?_
        refine lv_icmp_gt (tgt := 29) hx hb dX0_changed_21 (by decide) (fun c4 => ?_) (fun c4 => ?_)
        · refine lv_iconst (v := (-1)) hx hb dX0_changed_29 (by decide) ?_
          exact ret _ _ _ _ _ _ (⟨rfl, rfl⟩) w dX0_changed_30
        · refine lv_iload_n hx hb dX0_changed_24 rfl (lv_at hl 1 rfl) ?_
          refine lv_iload_n hx hb dX0_changed_25 rfl (lv_at hl 2 rfl) ?_
          refine lv_icmp_lt (tgt := 31) hx hb dX0_changed_26 (by decide) (fun hn => absurd hn ((((hbad.resolve_left c1).resolve_left c2).resolve_left c3).resolve_left c4)) (fun _ => ?_)
          refine lv_iconst (v := (-1)) hx hb dX0_changed_29 (by decide) ?_
          exact ret _ _ _ _ _ _ (⟨rfl, rfl⟩) w dX0_changed_30
set_option maxHeartbeats 4000000 in
set_option maxRecDepth 100000 in
theorem x_changed_gone (σ : ST) (a b : Nat) (L : Nat) (hL : σ 7 0 = nI L) (hL2 : L < 1000) (hab : a < b) (hbL : b ≤ L) (ha : a + 6 ≤ L) : KMi WX tX yX0_changed cX0_changed 3 (some .int) 2 [.int (nI (a)), .int (nI (b))] σ (fun r σ' => r = -6 ∧ σ' = σ) := by
  refine KMi.ofI (own := RX0) (by decide +kernel) rfl (fun _ => Nat.le_of_ble_eq_true rfl) ?_
  intro p l e s m args below meth c D h ad d A ls Q E w ret hl
  have hx := E.1
  have hb := E.2.1
  have hl : lv_has ls 3 [(0, .ref h), (1, .int (nI (a))), (2, .int (nI (b)))] := hl
  have hk : ¬ ∃ b, nI a = nI b ∧ b ≤ L ∧ L < b + 6 := fun ⟨b, z1, z2, z3⟩ => by have z4 := nI_inj (by omega) (by omega) z1; omega
  refine lv_iload_n hx hb dX0_changed_0 rfl (lv_at hl 1 rfl) ?_
  refine lv_if_lt (tgt := 29) hx hb dX0_changed_1 (by decide) (fun hn => absurd hn (nI_pos (by omega))) (fun _ => ?_)
  refine lv_iload_n hx hb dX0_changed_4 rfl (lv_at hl 2 rfl) ?_
  refine lv_if_lt (tgt := 29) hx hb dX0_changed_5 (by decide) (fun hn => absurd hn (nI_pos (by omega))) (fun _ => ?_)
  refine lv_iload_n hx hb dX0_changed_8 rfl (lv_at hl 1 rfl) ?_
  refine lv_aload_n hx hb dX0_changed_9 rfl (lv_at hl 0 rfl) ?_
  refine x_get (v := .int (σ 7 0)) E w 7 (by decide) q37 rfl dX0_changed_10 ?_
  refine g_eq (y := (nI (L))) (hL) ?_
  refine lv_icmp_gt (tgt := 29) hx hb dX0_changed_13 (by decide) (fun hn => absurd hn (nI_nlt (by omega) (by omega))) (fun _ => ?_)
  refine lv_iload_n hx hb dX0_changed_16 rfl (lv_at hl 2 rfl) ?_
  refine lv_aload_n hx hb dX0_changed_17 rfl (lv_at hl 0 rfl) ?_
  refine x_get (v := .int (σ 7 0)) E w 7 (by decide) q37 rfl dX0_changed_18 ?_
  refine g_eq (y := (nI (L))) (hL) ?_
  refine lv_icmp_gt (tgt := 29) hx hb dX0_changed_21 (by decide) (fun hn => absurd hn (nI_nlt (by omega) (by omega))) (fun _ => ?_)
  refine lv_iload_n hx hb dX0_changed_24 rfl (lv_at hl 1 rfl) ?_
  refine lv_iload_n hx hb dX0_changed_25 rfl (lv_at hl 2 rfl) ?_
  refine lv_icmp_lt (tgt := 31) hx hb dX0_changed_26 (by decide) (fun _ => ?_) (fun hn => absurd (nI_lt (by omega) (by omega)) hn)
  refine lv_aload_n hx hb dX0_changed_31 rfl (lv_at hl 0 rfl) ?_
  refine lv_iload_n hx hb dX0_changed_32 rfl (lv_at hl 1 rfl) ?_
  refine k_calli (ci := 0) (C := RX0) (T := TX0) (N := 21) (x_isKept_n σ (nI a) L hL hL2 hk) E w q182 q184 qs11 q20 q185 rfl rfl 1 rfl (by decide +kernel) ⟨Nat.le_of_ble_eq_true rfl, Nat.le_of_ble_eq_true rfl⟩ hl.1 rfl (Nat.le_of_ble_eq_true rfl) dX0_changed_33 ⟨Nat.zero_le _, Nat.zero_le _⟩ (fun r_33 σ_33 H locs hp_33 w => ?_)
  obtain ⟨e1, e2⟩ := hp_33
  rw [e2] at w
  refine g_eq (y := (nI (0))) (e1) ?_
  refine lv_if_ne (tgt := 42) hx hb dX0_changed_36 (by decide) (fun hn => absurd hn (fun z => z nI_0)) (fun _ => ?_)
  refine lv_bipush (v := (-6)) hx hb dX0_changed_39 (by decide) ?_
  exact ret _ _ _ _ _ _ (⟨rfl, rfl⟩) w dX0_changed_41
set_option maxHeartbeats 4000000 in
set_option maxRecDepth 100000 in
theorem x_changed (σ : ST) (a b N : Nat) (L : Nat) (hL : σ 7 0 = nI L) (hL2 : L < 1000) (hab : a < b) (hbL : b ≤ L) (ha : L < a + 6) (hN : N ≤ 512) (hT : TV (σ 0) (σ 3) N 5 (σ 8 (b % 6))) : KMi WX tX yX0_changed cX0_changed 3 (some .int) 2 [.int (nI (a)), .int (nI (b))] σ (fun r σ' => r = nI (ctT (σ 0) (σ 3) (nI a) (-1) 5 (σ 8 (b % 6)) 0) ∧ ∀ c, c < 17 → σ' c = σ c) := by
  refine KMi.ofI (own := RX0) (by decide +kernel) rfl (fun _ => Nat.le_of_ble_eq_true rfl) ?_
  intro p l e s m args below meth c D h ad d A ls Q E w ret hl
  have hx := E.1
  have hb := E.2.1
  have hl : lv_has ls 3 [(0, .ref h), (1, .int (nI (a))), (2, .int (nI (b)))] := hl
  refine lv_iload_n hx hb dX0_changed_0 rfl (lv_at hl 1 rfl) ?_
  refine lv_if_lt (tgt := 29) hx hb dX0_changed_1 (by decide) (fun hn => absurd hn (nI_pos (by omega))) (fun _ => ?_)
  refine lv_iload_n hx hb dX0_changed_4 rfl (lv_at hl 2 rfl) ?_
  refine lv_if_lt (tgt := 29) hx hb dX0_changed_5 (by decide) (fun hn => absurd hn (nI_pos (by omega))) (fun _ => ?_)
  refine lv_iload_n hx hb dX0_changed_8 rfl (lv_at hl 1 rfl) ?_
  refine lv_aload_n hx hb dX0_changed_9 rfl (lv_at hl 0 rfl) ?_
  refine x_get (v := .int (σ 7 0)) E w 7 (by decide) q37 rfl dX0_changed_10 ?_
  refine g_eq (y := (nI (L))) (hL) ?_
  refine lv_icmp_gt (tgt := 29) hx hb dX0_changed_13 (by decide) (fun hn => absurd hn (nI_nlt (by omega) (by omega))) (fun _ => ?_)
  refine lv_iload_n hx hb dX0_changed_16 rfl (lv_at hl 2 rfl) ?_
  refine lv_aload_n hx hb dX0_changed_17 rfl (lv_at hl 0 rfl) ?_
  refine x_get (v := .int (σ 7 0)) E w 7 (by decide) q37 rfl dX0_changed_18 ?_
  refine g_eq (y := (nI (L))) (hL) ?_
  refine lv_icmp_gt (tgt := 29) hx hb dX0_changed_21 (by decide) (fun hn => absurd hn (nI_nlt (by omega) (by omega))) (fun _ => ?_)
  refine lv_iload_n hx hb dX0_changed_24 rfl (lv_at hl 1 rfl) ?_
  refine lv_iload_n hx hb dX0_changed_25 rfl (lv_at hl 2 rfl) ?_
  refine lv_icmp_lt (tgt := 31) hx hb dX0_changed_26 (by decide) (fun _ => ?_) (fun hn => absurd (nI_lt (by omega) (by omega)) hn)
  refine lv_aload_n hx hb dX0_changed_31 rfl (lv_at hl 0 rfl) ?_
  refine lv_iload_n hx hb dX0_changed_32 rfl (lv_at hl 1 rfl) ?_
  refine k_calli (ci := 0) (C := RX0) (T := TX0) (N := 21) (x_isKept_y σ a L hL hL2 (by omega) ha) E w q182 q184 qs11 q20 q185 rfl rfl 1 rfl (by decide +kernel) ⟨Nat.le_of_ble_eq_true rfl, Nat.le_of_ble_eq_true rfl⟩ hl.1 rfl (Nat.le_of_ble_eq_true rfl) dX0_changed_33 ⟨Nat.zero_le _, Nat.zero_le _⟩ (fun r_33 σ_33 H locs hp_33 w => ?_)
  obtain ⟨e1, e2⟩ := hp_33
  rw [e2] at w
  refine g_eq (y := (nI (1))) (e1) ?_
  refine lv_if_ne (tgt := 42) hx hb dX0_changed_36 (by decide) (fun _ => ?_) (fun hn => absurd hn (by decide))
  refine lv_aload_n hx hb dX0_changed_42 rfl (lv_at hl 0 rfl) ?_
  refine lv_aload_n hx hb dX0_changed_43 rfl (lv_at hl 0 rfl) ?_
  refine x_get (v := .ref (ad 8)) E w 8 (by decide) q38 rfl dX0_changed_44 ?_
  refine lv_iload_n hx hb dX0_changed_47 rfl (lv_at hl 2 rfl) ?_
  refine lv_bipush (v := (nI (6))) hx hb dX0_changed_48 (by decide) ?_
  refine n_irem (by omega) (by decide) (by decide) hx hb dX0_changed_50 ?_
  refine g_sald (f := σ 8) E w 7 6 rfl rfl (by omega) (by decide) dX0_changed_51 ?_
  refine lv_iload_n hx hb dX0_changed_52 rfl (lv_at hl 1 rfl) ?_
  refine lv_iconst (v := (-1)) hx hb dX0_changed_53 (by decide) ?_
  refine k_calli (ci := 0) (C := RX0) (T := TX0) (N := 21) (x_changedSince σ (σ 8 (b % 6)) (nI a) (-1) N hN hT) E w q146 q148 qs5 q20 q149 rfl rfl 3 rfl (by decide +kernel) ⟨Nat.le_of_ble_eq_true rfl, Nat.le_of_ble_eq_true rfl⟩ hl.1 rfl (Nat.le_of_ble_eq_true rfl) dX0_changed_54 ⟨Nat.zero_le _, Nat.zero_le _⟩ (fun r_54 σ_54 H locs hp_54 w => ?_)
  exact ret _ _ _ _ _ _ (hp_54) w dX0_changed_57
set_option maxHeartbeats 4000000 in
set_option maxRecDepth 100000 in
theorem x_commit_bad (σ : ST) (t : Int32) (hbad : t < 0 ∨ nI 3 < t) : KMi WX tX yX0_commit cX0_commit 5 (some .int) 2 [.int (t)] σ (fun r σ' => r = -1 ∧ σ' = σ) := by
  refine KMi.ofI (own := RX0) (by decide +kernel) rfl (fun _ => Nat.le_of_ble_eq_true rfl) ?_
  intro p l e s m args below meth c D h ad d A ls Q E w ret hl
  have hx := E.1
  have hb := E.2.1
  have hl : lv_has ls 5 [(0, .ref h), (1, .int (t))] := hl
  refine lv_aload_n hx hb dX0_commit_0 rfl (lv_at hl 0 rfl) ?_
  refine lv_iload_n hx hb dX0_commit_1 rfl (lv_at hl 1 rfl) ?_
  refine lv_iconst (v := (nI (0))) hx hb dX0_commit_2 (by decide) ?_
  refine lv_iconst (v := (nI (0))) hx hb dX0_commit_3 (by decide) ?_
  refine k_calli (ci := 0) (C := RX0) (T := TX0) (N := 21) (x_check_bad σ t (nI 0) (nI 0) (by rcases hbad with z | z; exact Or.inl z; exact Or.inr (Or.inl z))) E w q110 q112 qs1 q20 q113 rfl rfl 3 rfl (by decide +kernel) ⟨Nat.le_of_ble_eq_true rfl, Nat.le_of_ble_eq_true rfl⟩ hl.1 rfl (Nat.le_of_ble_eq_true rfl) dX0_commit_4 ⟨Nat.zero_le _, Nat.zero_le _⟩ (fun r_4 σ_4 H locs hp_4 w => ?_)
  obtain ⟨e1, e2⟩ := hp_4
  rw [e2] at w
  refine g_eq (y := (-1)) (e1) ?_
  refine lv_istore_n (lv' := [(2, .int (-1)), (0, .ref h), (1, .int (t))]) hx hb dX0_commit_7 rfl hl (by decide) rfl (fun ls hl => ?_)
  refine lv_iload_n hx hb dX0_commit_8 rfl (lv_at hl 0 rfl) ?_
  refine lv_if_eq (tgt := 14) hx hb dX0_commit_9 (by decide) (fun hn => absurd hn (by decide)) (fun _ => ?_)
  refine lv_iload_n hx hb dX0_commit_12 rfl (lv_at hl 0 rfl) ?_
  exact ret _ _ _ _ _ _ (⟨rfl, rfl⟩) w dX0_commit_13
set_option maxHeartbeats 4000000 in
set_option maxRecDepth 100000 in
theorem x_commit_cl (σ : ST) (t : Nat) (ht : t < 4) (ho : σ 9 t = 0) : KMi WX tX yX0_commit cX0_commit 5 (some .int) 2 [.int (nI (t))] σ (fun r σ' => r = -3 ∧ σ' = σ) := by
  refine KMi.ofI (own := RX0) (by decide +kernel) rfl (fun _ => Nat.le_of_ble_eq_true rfl) ?_
  intro p l e s m args below meth c D h ad d A ls Q E w ret hl
  have hx := E.1
  have hb := E.2.1
  have hl : lv_has ls 5 [(0, .ref h), (1, .int (nI (t)))] := hl
  refine lv_aload_n hx hb dX0_commit_0 rfl (lv_at hl 0 rfl) ?_
  refine lv_iload_n hx hb dX0_commit_1 rfl (lv_at hl 1 rfl) ?_
  refine lv_iconst (v := (nI (0))) hx hb dX0_commit_2 (by decide) ?_
  refine lv_iconst (v := (nI (0))) hx hb dX0_commit_3 (by decide) ?_
  refine k_calli (ci := 0) (C := RX0) (T := TX0) (N := 21) (x_check_ok σ t 0 0 ht (Nat.le_refl _) (by decide)) E w q110 q112 qs1 q20 q113 rfl rfl 3 rfl (by decide +kernel) ⟨Nat.le_of_ble_eq_true rfl, Nat.le_of_ble_eq_true rfl⟩ hl.1 rfl (Nat.le_of_ble_eq_true rfl) dX0_commit_4 ⟨Nat.zero_le _, Nat.zero_le _⟩ (fun r_4 σ_4 H locs hp_4 w => ?_)
  obtain ⟨z1, z2, e2⟩ := hp_4
  rw [e2] at w
  have e1 := z1 ho
  refine g_eq (y := (-3)) (e1) ?_
  refine lv_istore_n (lv' := [(2, .int (-3)), (0, .ref h), (1, .int (nI (t)))]) hx hb dX0_commit_7 rfl hl (by decide) rfl (fun ls hl => ?_)
  refine lv_iload_n hx hb dX0_commit_8 rfl (lv_at hl 0 rfl) ?_
  refine lv_if_eq (tgt := 14) hx hb dX0_commit_9 (by decide) (fun hn => absurd hn (by decide)) (fun _ => ?_)
  refine lv_iload_n hx hb dX0_commit_12 rfl (lv_at hl 0 rfl) ?_
  exact ret _ _ _ _ _ _ (⟨rfl, rfl⟩) w dX0_commit_13
set_option maxHeartbeats 4000000 in
set_option maxRecDepth 100000 in
theorem x_commit_conf (σ : ST) (t N : Nat) (L : Nat) (hL : σ 7 0 = nI L) (hL2 : L < 1000) (ht : t < 4) (ho : ¬ σ 9 t = 0) (hN : N ≤ 512) (hT : TV (σ 0) (σ 3) N 5 (σ 8 (L % 6))) (hcf : ¬ ctT (σ 0) (σ 3) (σ 10 t) (σ 12 t) 5 (σ 8 (L % 6)) 0 = 0) : KMi WX tX yX0_commit cX0_commit 5 (some .int) 2 [.int (nI (t))] σ (fun r σ' => r = -5 ∧ ∀ a, a < 17 → σ' a = su (su σ 9 t (nI 0)) 11 t (-1) a) := by
  refine KMi.ofI (own := RX0) (by decide +kernel) rfl (fun _ => Nat.le_of_ble_eq_true rfl) ?_
  intro p l e s m args below meth c D h ad d A ls Q E w ret hl
  have hx := E.1
  have hb := E.2.1
  have hl : lv_has ls 5 [(0, .ref h), (1, .int (nI (t)))] := hl
  refine lv_aload_n hx hb dX0_commit_0 rfl (lv_at hl 0 rfl) ?_
  refine lv_iload_n hx hb dX0_commit_1 rfl (lv_at hl 1 rfl) ?_
  refine lv_iconst (v := (nI (0))) hx hb dX0_commit_2 (by decide) ?_
  refine lv_iconst (v := (nI (0))) hx hb dX0_commit_3 (by decide) ?_
  refine k_calli (ci := 0) (C := RX0) (T := TX0) (N := 21) (x_check_ok σ t 0 0 ht (Nat.le_refl _) (by decide)) E w q110 q112 qs1 q20 q113 rfl rfl 3 rfl (by decide +kernel) ⟨Nat.le_of_ble_eq_true rfl, Nat.le_of_ble_eq_true rfl⟩ hl.1 rfl (Nat.le_of_ble_eq_true rfl) dX0_commit_4 ⟨Nat.zero_le _, Nat.zero_le _⟩ (fun r_4 σ_4 H locs hp_4 w => ?_)
  obtain ⟨z1, z2, e2⟩ := hp_4
  rw [e2] at w
  have e1 := z2 ho
  refine g_eq (y := (nI (0))) (e1) ?_
  refine lv_istore_n (lv' := [(2, .int (nI (0))), (0, .ref h), (1, .int (nI (t)))]) hx hb dX0_commit_7 rfl hl (by decide) rfl (fun ls hl => ?_)
  refine lv_iload_n hx hb dX0_commit_8 rfl (lv_at hl 0 rfl) ?_
  refine lv_if_eq (tgt := 14) hx hb dX0_commit_9 (by decide) (fun _ => ?_) (fun hn => absurd (nI_0) hn)
  refine lv_aload_n hx hb dX0_commit_14 rfl (lv_at hl 1 rfl) ?_
  refine x_get (v := .ref (ad 9)) E w 9 (by decide) q39 rfl dX0_commit_15 ?_
  refine lv_iload_n hx hb dX0_commit_18 rfl (lv_at hl 2 rfl) ?_
  refine lv_iconst (v := (nI (0))) hx hb dX0_commit_19 (by decide) ?_
  refine g_zast (f := σ 9) (ws' := WX h ad d (su σ 9 (t) (nI (0)))) E w 8 7 rfl rfl (by omega) (by decide) (rfl) rfl dX0_commit_20 (fun H locs w => ?_)
  refine lv_aload_n hx hb dX0_commit_21 rfl (lv_at hl 1 rfl) ?_
  refine x_get (v := .ref (ad 8)) E w 8 (by decide) q38 rfl dX0_commit_22 ?_
  refine lv_aload_n hx hb dX0_commit_25 rfl (lv_at hl 1 rfl) ?_
  refine x_get (v := .int (σ 7 0)) E w 7 (by decide) q37 rfl dX0_commit_26 ?_
  refine g_eq (y := (nI (L))) (hL) ?_
  refine lv_bipush (v := (nI (6))) hx hb dX0_commit_29 (by decide) ?_
  refine n_irem (by omega) (by decide) (by decide) hx hb dX0_commit_31 ?_
  refine g_sald (f := σ 8) E w 7 6 rfl rfl (by omega) (by decide) dX0_commit_32 ?_
  refine lv_istore_n (lv' := [(3, .int (σ 8 (L % 6))), (2, .int (nI (0))), (0, .ref h), (1, .int (nI (t)))]) hx hb dX0_commit_33 rfl hl (by decide) rfl (fun ls hl => ?_)
  refine lv_aload_n hx hb dX0_commit_34 rfl (lv_at hl 2 rfl) ?_
  refine lv_iload_n hx hb dX0_commit_35 rfl (lv_at hl 0 rfl) ?_
  refine lv_aload_n hx hb dX0_commit_36 rfl (lv_at hl 2 rfl) ?_
  refine x_get (v := .ref (ad 10)) E w 10 (by decide) q40 rfl dX0_commit_37 ?_
  refine lv_iload_n hx hb dX0_commit_40 rfl (lv_at hl 3 rfl) ?_
  refine g_iald (f := σ 10) E w 9 8 rfl rfl (by omega) (by decide) dX0_commit_41 ?_
  refine lv_aload_n hx hb dX0_commit_42 rfl (lv_at hl 2 rfl) ?_
  refine x_get (v := .ref (ad 12)) E w 12 (by decide) q42 rfl dX0_commit_43 ?_
  refine lv_iload_n hx hb dX0_commit_46 rfl (lv_at hl 3 rfl) ?_
  refine g_iald (f := σ 12) E w 11 10 rfl rfl (by omega) (by decide) dX0_commit_47 ?_
  refine k_calli (ci := 0) (C := RX0) (T := TX0) (N := 21) (x_changedSince (su σ 9 t (nI 0)) (σ 8 (L % 6)) (σ 10 t) (σ 12 t) N hN hT) E w q146 q148 qs5 q20 q149 rfl rfl 3 rfl (by decide +kernel) ⟨Nat.le_of_ble_eq_true rfl, Nat.le_of_ble_eq_true rfl⟩ hl.1 rfl (Nat.le_of_ble_eq_true rfl) dX0_commit_48 ⟨Nat.zero_le _, Nat.zero_le _⟩ (fun r_48 σ_48 H locs hp_48 w => ?_)
  obtain ⟨e1, f1⟩ := hp_48
  have e1 : r_48 = nI (ctT (σ 0) (σ 3) (σ 10 t) (σ 12 t) 5 (σ 8 (L % 6)) 0) := e1
  refine g_eq (y := (nI (ctT (σ 0) (σ 3) (σ 10 t) (σ 12 t) 5 (σ 8 (L % 6)) 0))) (e1) ?_
  have hle : ctT (σ 0) (σ 3) (σ 10 t) (σ 12 t) 5 (σ 8 (L % 6)) 0 ≤ 2 ^ 5 := ctT_le _ _ _ _ _ _ _
  refine lv_if_eq (tgt := 64) hx hb dX0_commit_51 (by decide) (fun hn => absurd hn (nI_ne0 (Nat.pos_of_ne_zero hcf) (Nat.lt_of_le_of_lt hle (by decide)))) (fun _ => ?_)
  refine lv_aload_n hx hb dX0_commit_54 rfl (lv_at hl 2 rfl) ?_
  refine x_get (v := .ref (ad 11)) E w 11 (by decide) q41 rfl dX0_commit_55 ?_
  refine lv_iload_n hx hb dX0_commit_58 rfl (lv_at hl 3 rfl) ?_
  refine lv_iconst (v := (-1)) hx hb dX0_commit_59 (by decide) ?_
  refine g_sast (f := σ_48 11) (ws' := WX h ad d (su σ_48 11 (t) (-1))) E w 10 9 rfl rfl (by omega) (by decide) (ns_m1) rfl dX0_commit_60 (fun H locs w => ?_)
  refine lv_bipush (v := (-5)) hx hb dX0_commit_61 (by decide) ?_
  exact ret _ _ _ _ _ _ (⟨rfl, su_cong f1 11 t _ (by decide)⟩) w dX0_commit_63
set_option maxHeartbeats 4000000 in
set_option maxRecDepth 100000 in
theorem x_commit_ok (σ : ST) (t v N : Nat) (L : Nat) (hL : σ 7 0 = nI L) (hL2 : L < 1000) (ht : t < 4) (ho : ¬ σ 9 t = 0) (hN : N ≤ 512) (hT : TV (σ 0) (σ 3) N 5 (σ 8 (L % 6))) (hcf : ctT (σ 0) (σ 3) (σ 10 t) (σ 12 t) 5 (σ 8 (L % 6)) 0 = 0) (hw : σ 13 t = nI v) (hw6 : v ≤ 6) (hNv : N + 6 * v ≤ 476) (hF : σ 5 0 = nI (512 - N)) (h6 : ∀ j, j < 512 → σ 6 j = nI (511 - j)) (hst : ∀ i, i < N → σ 3 i ≤ nI (L + 1)) (hkeys : ∀ q, q < v → ∃ k, k < 32 ∧ σ 14 (6 * t + q) = nI k) (hdis : ∀ q q2, q < v → q2 < v → σ 14 (6 * t + q) = σ 14 (6 * t + q2) → q = q2) (hbo : ∀ q, q < v → vp_nar .boolean (σ 16 (6 * t + q)) = σ 16 (6 * t + q)) : KMi WX tX yX0_commit cX0_commit 5 (some .int) 2 [.int (nI (t))] σ (fun r σ' => r = nI (L + 1) ∧ ∃ rt, CmP σ σ' t v L N rt) := by
  refine KMi.ofI (own := RX0) (by decide +kernel) rfl (fun _ => Nat.le_of_ble_eq_true rfl) ?_
  intro p l e s m args below meth c D h ad d A ls Q E w ret hl
  have hx := E.1
  have hb := E.2.1
  have hl : lv_has ls 5 [(0, .ref h), (1, .int (nI (t)))] := hl
  have loop : ∀ (u j : Nat), j + u = v → ∀ (σ1 : ST) (rt : Int32), CmP σ σ1 t j L N rt → ∀ (H : Heap) (locs : List Loc) (ls : Array Slot), GW D A s.heap s (tX d) (WX h ad d σ1) H locs → lv_has ls 5 [(4, .int (nI (6 * t + j))), (3, .int (σ 8 (L % 6))), (2, .int (nI (0))), (0, .ref h), (1, .int (nI (t)))] → W p l e (rm 2) s m args below meth c H locs 0 0 Q (F0 m 114 ls []) := by
    intro u
    induction u with
    | zero =>
      intro j hj σ1 rt hC H locs ls w hl
      have hC0 := hC
      obtain ⟨a1, a9, a11, a7, a8, a5, a0, a123, a3, aT, ak, an⟩ := hC0
      have b13 : σ1 13 t = nI v := by rw [a1 13 (by decide) (by decide) (by decide) (by decide) (by decide) (by decide) (by decide) (by decide) (by decide) (by decide)]; exact hw
      refine lv_iload hx hb dX0_commit_114 (lv_at hl 0 rfl) ?_
      refine lv_bipush (v := (nI (6))) hx hb dX0_commit_116 (by decide) ?_
      refine lv_iload_n hx hb dX0_commit_118 rfl (lv_at hl 4 rfl) ?_
      refine n_imul hx hb dX0_commit_119 ?_
      refine lv_aload_n hx hb dX0_commit_120 rfl (lv_at hl 3 rfl) ?_
      refine x_get (v := .ref (ad 13)) E w 13 (by decide) q43 rfl dX0_commit_121 ?_
      refine lv_iload_n hx hb dX0_commit_124 rfl (lv_at hl 4 rfl) ?_
      refine g_bald (f := σ1 13) E w 12 11 rfl rfl (by omega) (by decide) dX0_commit_125 ?_
      refine g_eq (y := (nI (v))) (b13) ?_
      refine n_iadd hx hb dX0_commit_126 ?_
      refine lv_icmp_ge (tgt := 167) hx hb dX0_commit_127 (by decide) (fun _ => ?_) (fun hn => absurd (nI_le (by omega) (by omega)) hn)
      refine lv_aload_n hx hb dX0_commit_167 rfl (lv_at hl 3 rfl) ?_
      refine x_get (v := .int (σ1 7 0)) E w 7 (by decide) q37 rfl dX0_commit_168 ?_
      refine g_eq (y := (nI (L + 1))) (a7) ?_
      exact ret _ _ _ _ _ _ (⟨rfl, rt, by rw [← hj]; exact hC⟩) w dX0_commit_171
    | succ u ih =>
      intro j hj σ1 rt hC H locs ls w hl
      have hC0 := hC
      obtain ⟨a1, a9, a11, a7, a8, a5, a0, a123, a3, aT, ak, an⟩ := hC0
      have b13 : σ1 13 t = nI v := by rw [a1 13 (by decide) (by decide) (by decide) (by decide) (by decide) (by decide) (by decide) (by decide) (by decide) (by decide)]; exact hw
      obtain ⟨k, hk, hkey⟩ := hkeys j (by omega)
      have e14 : ∀ a, a = 6 ∨ a = 14 ∨ a = 15 ∨ a = 16 → σ1 a = σ a := fun a ha => a1 a (by omega) (by omega) (by omega) (by omega) (by omega) (by omega) (by omega) (by omega) (by omega) (by omega)
      have b8 : σ1 8 ((L + 1) % 6) = rt := by rw [a8, pk_us]
      have b3 : ∀ i, i < N + 6 * j → σ1 3 i ≤ σ1 7 0 := fun i hi => by
        rw [a7]
        rcases Nat.lt_or_ge i N with g | g
        · rw [(a123 i g).2.2]; exact hst i g
        · rw [a3 i g hi]; exact i32_le_refl _
      refine lv_iload hx hb dX0_commit_114 (lv_at hl 0 rfl) ?_
      refine lv_bipush (v := (nI (6))) hx hb dX0_commit_116 (by decide) ?_
      refine lv_iload_n hx hb dX0_commit_118 rfl (lv_at hl 4 rfl) ?_
      refine n_imul hx hb dX0_commit_119 ?_
      refine lv_aload_n hx hb dX0_commit_120 rfl (lv_at hl 3 rfl) ?_
      refine x_get (v := .ref (ad 13)) E w 13 (by decide) q43 rfl dX0_commit_121 ?_
      refine lv_iload_n hx hb dX0_commit_124 rfl (lv_at hl 4 rfl) ?_
      refine g_bald (f := σ1 13) E w 12 11 rfl rfl (by omega) (by decide) dX0_commit_125 ?_
      refine g_eq (y := (nI (v))) (b13) ?_
      refine n_iadd hx hb dX0_commit_126 ?_
      refine lv_icmp_ge (tgt := 167) hx hb dX0_commit_127 (by decide) (fun hn => absurd hn (nI_ge (by omega) (by omega))) (fun _ => ?_)
      refine lv_aload_n hx hb dX0_commit_130 rfl (lv_at hl 3 rfl) ?_
      refine x_get (v := .ref (ad 8)) E w 8 (by decide) q38 rfl dX0_commit_131 ?_
      refine lv_aload_n hx hb dX0_commit_134 rfl (lv_at hl 3 rfl) ?_
      refine x_get (v := .int (σ1 7 0)) E w 7 (by decide) q37 rfl dX0_commit_135 ?_
      refine g_eq (y := (nI (L + 1))) (a7) ?_
      refine lv_bipush (v := (nI (6))) hx hb dX0_commit_138 (by decide) ?_
      refine n_irem (by omega) (by decide) (by decide) hx hb dX0_commit_140 ?_
      refine lv_aload_n hx hb dX0_commit_141 rfl (lv_at hl 3 rfl) ?_
      refine lv_aload_n hx hb dX0_commit_142 rfl (lv_at hl 3 rfl) ?_
      refine x_get (v := .ref (ad 8)) E w 8 (by decide) q38 rfl dX0_commit_143 ?_
      refine lv_aload_n hx hb dX0_commit_146 rfl (lv_at hl 3 rfl) ?_
      refine x_get (v := .int (σ1 7 0)) E w 7 (by decide) q37 rfl dX0_commit_147 ?_
      refine g_eq (y := (nI (L + 1))) (a7) ?_
      refine lv_bipush (v := (nI (6))) hx hb dX0_commit_150 (by decide) ?_
      refine n_irem (by omega) (by decide) (by decide) hx hb dX0_commit_152 ?_
      refine g_sald (f := σ1 8) E w 7 6 rfl rfl (by omega) (by decide) dX0_commit_153 ?_
      refine g_eq (y := (rt)) (b8) ?_
      refine lv_iload hx hb dX0_commit_154 (lv_at hl 0 rfl) ?_
      refine k_calli (ci := 0) (C := RX0) (T := TX0) (N := 21) (x_written σ1 rt (6 * t + j) k (N + 6 * j) (by omega) hk (by omega) aT (by rw [e14 14 (by decide)]; exact hkey) (by rw [e14 16 (by decide)]; exact hbo j (by omega)) a5 (by rw [e14 6 (by decide)]; exact h6) b3) E w q162 q164 qs9 q20 q165 rfl rfl 2 rfl (by decide +kernel) ⟨Nat.le_of_ble_eq_true rfl, Nat.le_of_ble_eq_true rfl⟩ hl.1 rfl (Nat.le_of_ble_eq_true rfl) dX0_commit_156 ⟨Nat.zero_le _, Nat.zero_le _⟩ (fun r_156 σ_156 H locs hp_156 w => ?_)
      obtain ⟨er, hW⟩ := hp_156
      refine g_eq (y := (nI (N + 6 * j + 5))) (er) ?_
      refine lv_i2s (v := (nI (N + 6 * j + 5))) hx hb dX0_commit_159 (ns_i2s (by omega)) ?_
      refine g_sast (f := σ_156 8) (ws' := WX h ad d (su σ_156 8 ((L + 1) % 6) (nI (N + 6 * j + 5)))) E w 7 6 rfl rfl (by omega) (by decide) (ns_small (by omega)) rfl dX0_commit_160 (fun H locs w => ?_)
      refine lv_iinc (v := (nI (6 * t + (j + 1)))) (lv' := [(4, .int (nI (6 * t + (j + 1)))), (3, .int (σ 8 (L % 6))), (2, .int (nI (0))), (0, .ref h), (1, .int (nI (t)))]) hx hb dX0_commit_161 hl (k := 0) rfl (nI_1 (6 * t + j)) (by decide) rfl (fun ls hl => ?_)
      refine lv_goto (tgt := 114) hx hb dX0_commit_164 (by decide) ?_
      exact ih (j + 1) (by omega) _ _ (CmP_s hC hk hkey (fun q hq e => absurd (hdis q j (by omega) (by omega) (e.trans hkey.symm)) (by omega)) hW) H locs ls w hl
  refine lv_aload_n hx hb dX0_commit_0 rfl (lv_at hl 0 rfl) ?_
  refine lv_iload_n hx hb dX0_commit_1 rfl (lv_at hl 1 rfl) ?_
  refine lv_iconst (v := (nI (0))) hx hb dX0_commit_2 (by decide) ?_
  refine lv_iconst (v := (nI (0))) hx hb dX0_commit_3 (by decide) ?_
  refine k_calli (ci := 0) (C := RX0) (T := TX0) (N := 21) (x_check_ok σ t 0 0 ht (Nat.le_refl _) (by decide)) E w q110 q112 qs1 q20 q113 rfl rfl 3 rfl (by decide +kernel) ⟨Nat.le_of_ble_eq_true rfl, Nat.le_of_ble_eq_true rfl⟩ hl.1 rfl (Nat.le_of_ble_eq_true rfl) dX0_commit_4 ⟨Nat.zero_le _, Nat.zero_le _⟩ (fun r_4 σ_4 H locs hp_4 w => ?_)
  obtain ⟨z1, z2, e2⟩ := hp_4
  rw [e2] at w
  have e1 := z2 ho
  refine g_eq (y := (nI (0))) (e1) ?_
  refine lv_istore_n (lv' := [(2, .int (nI (0))), (0, .ref h), (1, .int (nI (t)))]) hx hb dX0_commit_7 rfl hl (by decide) rfl (fun ls hl => ?_)
  refine lv_iload_n hx hb dX0_commit_8 rfl (lv_at hl 0 rfl) ?_
  refine lv_if_eq (tgt := 14) hx hb dX0_commit_9 (by decide) (fun _ => ?_) (fun hn => absurd (nI_0) hn)
  refine lv_aload_n hx hb dX0_commit_14 rfl (lv_at hl 1 rfl) ?_
  refine x_get (v := .ref (ad 9)) E w 9 (by decide) q39 rfl dX0_commit_15 ?_
  refine lv_iload_n hx hb dX0_commit_18 rfl (lv_at hl 2 rfl) ?_
  refine lv_iconst (v := (nI (0))) hx hb dX0_commit_19 (by decide) ?_
  refine g_zast (f := σ 9) (ws' := WX h ad d (su σ 9 (t) (nI (0)))) E w 8 7 rfl rfl (by omega) (by decide) (rfl) rfl dX0_commit_20 (fun H locs w => ?_)
  refine lv_aload_n hx hb dX0_commit_21 rfl (lv_at hl 1 rfl) ?_
  refine x_get (v := .ref (ad 8)) E w 8 (by decide) q38 rfl dX0_commit_22 ?_
  refine lv_aload_n hx hb dX0_commit_25 rfl (lv_at hl 1 rfl) ?_
  refine x_get (v := .int (σ 7 0)) E w 7 (by decide) q37 rfl dX0_commit_26 ?_
  refine g_eq (y := (nI (L))) (hL) ?_
  refine lv_bipush (v := (nI (6))) hx hb dX0_commit_29 (by decide) ?_
  refine n_irem (by omega) (by decide) (by decide) hx hb dX0_commit_31 ?_
  refine g_sald (f := σ 8) E w 7 6 rfl rfl (by omega) (by decide) dX0_commit_32 ?_
  refine lv_istore_n (lv' := [(3, .int (σ 8 (L % 6))), (2, .int (nI (0))), (0, .ref h), (1, .int (nI (t)))]) hx hb dX0_commit_33 rfl hl (by decide) rfl (fun ls hl => ?_)
  refine lv_aload_n hx hb dX0_commit_34 rfl (lv_at hl 2 rfl) ?_
  refine lv_iload_n hx hb dX0_commit_35 rfl (lv_at hl 0 rfl) ?_
  refine lv_aload_n hx hb dX0_commit_36 rfl (lv_at hl 2 rfl) ?_
  refine x_get (v := .ref (ad 10)) E w 10 (by decide) q40 rfl dX0_commit_37 ?_
  refine lv_iload_n hx hb dX0_commit_40 rfl (lv_at hl 3 rfl) ?_
  refine g_iald (f := σ 10) E w 9 8 rfl rfl (by omega) (by decide) dX0_commit_41 ?_
  refine lv_aload_n hx hb dX0_commit_42 rfl (lv_at hl 2 rfl) ?_
  refine x_get (v := .ref (ad 12)) E w 12 (by decide) q42 rfl dX0_commit_43 ?_
  refine lv_iload_n hx hb dX0_commit_46 rfl (lv_at hl 3 rfl) ?_
  refine g_iald (f := σ 12) E w 11 10 rfl rfl (by omega) (by decide) dX0_commit_47 ?_
  refine k_calli (ci := 0) (C := RX0) (T := TX0) (N := 21) (x_changedSince (su σ 9 t (nI 0)) (σ 8 (L % 6)) (σ 10 t) (σ 12 t) N hN hT) E w q146 q148 qs5 q20 q149 rfl rfl 3 rfl (by decide +kernel) ⟨Nat.le_of_ble_eq_true rfl, Nat.le_of_ble_eq_true rfl⟩ hl.1 rfl (Nat.le_of_ble_eq_true rfl) dX0_commit_48 ⟨Nat.zero_le _, Nat.zero_le _⟩ (fun r_48 σ_48 H locs hp_48 w => ?_)
  obtain ⟨e1, f1⟩ := hp_48
  have e1 : r_48 = nI (ctT (σ 0) (σ 3) (σ 10 t) (σ 12 t) 5 (σ 8 (L % 6)) 0) := e1
  refine g_eq (y := (nI (0))) (by rw [e1, hcf]) ?_
  have g8 : σ_48 8 = σ 8 := f1 8 (by decide)
  have g7 : σ_48 7 0 = nI L := by rw [f1 7 (by decide)]; exact hL
  have g5 : σ_48 5 0 = nI (512 - N) := by rw [f1 5 (by decide)]; exact hF
  refine lv_if_eq (tgt := 64) hx hb dX0_commit_51 (by decide) (fun _ => ?_) (fun hn => absurd (nI_0) hn)
  refine lv_aload_n hx hb dX0_commit_64 rfl (lv_at hl 2 rfl) ?_
  refine x_get (v := .ref (ad 11)) E w 11 (by decide) q41 rfl dX0_commit_65 ?_
  refine lv_iload_n hx hb dX0_commit_68 rfl (lv_at hl 3 rfl) ?_
  refine lv_iconst (v := (-1)) hx hb dX0_commit_69 (by decide) ?_
  refine g_sast (f := σ_48 11) (ws' := WX h ad d (su σ_48 11 (t) (-1))) E w 10 9 rfl rfl (by omega) (by decide) (ns_m1) rfl dX0_commit_70 (fun H locs w => ?_)
  refine lv_aload_n hx hb dX0_commit_71 rfl (lv_at hl 2 rfl) ?_
  refine lv_dup hx hb dX0_commit_72 rfl ?_
  refine x_get (v := .int (σ_48 7 0)) E w 7 (by decide) q37 rfl dX0_commit_73 ?_
  refine g_eq (y := (nI (L))) (g7) ?_
  refine lv_iconst (v := (nI (1))) hx hb dX0_commit_76 (by decide) ?_
  refine n_iadd hx hb dX0_commit_77 ?_
  refine x_put (σ' := (su (su σ_48 11 (t) (-1)) 7 0 (nI (L + 1)))) E w 7 (by decide) q37 rfl (by decide +kernel) rfl dX0_commit_78 (fun H locs w => ?_)
  refine lv_aload_n hx hb dX0_commit_81 rfl (lv_at hl 2 rfl) ?_
  refine x_get (v := .ref (ad 8)) E w 8 (by decide) q38 rfl dX0_commit_82 ?_
  refine lv_aload_n hx hb dX0_commit_85 rfl (lv_at hl 2 rfl) ?_
  refine x_get (v := .int (nI (L + 1))) E w 7 (by decide) q37 rfl dX0_commit_86 ?_
  refine lv_bipush (v := (nI (6))) hx hb dX0_commit_89 (by decide) ?_
  refine n_irem (by omega) (by decide) (by decide) hx hb dX0_commit_91 ?_
  refine lv_iload_n hx hb dX0_commit_92 rfl (lv_at hl 0 rfl) ?_
  refine lv_i2s (v := (σ 8 (L % 6))) hx hb dX0_commit_93 ((ns_tv hN hT).2) ?_
  refine g_sast (f := σ_48 8) (ws' := WX h ad d (su (su (su σ_48 11 (t) (-1)) 7 0 (nI (L + 1))) 8 ((L + 1) % 6) (σ 8 (L % 6)))) E w 7 6 rfl rfl (by omega) (by decide) ((ns_tv hN hT).1) rfl dX0_commit_94 (fun H locs w => ?_)
  refine lv_aload_n hx hb dX0_commit_95 rfl (lv_at hl 2 rfl) ?_
  refine x_get (v := .int (σ_48 5 0)) E w 5 (by decide) q35 rfl dX0_commit_96 ?_
  refine g_eq (y := (nI (512 - N))) (g5) ?_
  refine lv_bipush (v := (nI (36))) hx hb dX0_commit_99 (by decide) ?_
  refine lv_icmp_ge (tgt := 108) hx hb dX0_commit_101 (by decide) (fun _ => ?_) (fun hn => absurd (nI_le (by omega) (by omega)) hn)
  refine lv_bipush (v := (nI (6))) hx hb dX0_commit_108 (by decide) ?_
  refine lv_iload_n hx hb dX0_commit_110 rfl (lv_at hl 3 rfl) ?_
  refine n_imul hx hb dX0_commit_111 ?_
  refine lv_istore (lv' := [(4, .int (nI (6 * t))), (3, .int (σ 8 (L % 6))), (2, .int (nI (0))), (0, .ref h), (1, .int (nI (t)))]) hx hb dX0_commit_112 hl (by decide) rfl (fun ls hl => ?_)
  have hC : CmP σ (su (su (su σ_48 11 (t) (-1)) 7 0 (nI (L + 1))) 8 ((L + 1) % 6) (σ 8 (L % 6))) t 0 L N (σ 8 (L % 6)) := by
    refine ⟨fun a h h0 h1 h2 h3 h5 h7 h8 h9 h11 => ?_, f1 9 (by decide), ?_, rfl, ?_, g5, fun i _ => ?_, fun i _ => ⟨?_, ?_, ?_⟩, fun i h1 h2 => absurd h2 (by omega), ?_, fun q hq => absurd hq (by omega), fun k hk _ => ?_⟩
    · rw [su_ne _ _ _ h8, su_ne _ _ _ h7, su_ne _ _ _ h11, f1 a h, su_ne _ _ _ h9]
    · show upd (σ_48 11) t (-1) = _; rw [f1 11 (by decide)]; rfl
    · show upd (σ_48 8) ((L + 1) % 6) (σ 8 (L % 6)) = _; rw [g8]
    · show σ_48 0 i = _; rw [f1 0 (by decide)]; rfl
    · show σ_48 1 i = _; rw [f1 1 (by decide)]; rfl
    · show σ_48 2 i = _; rw [f1 2 (by decide)]; rfl
    · show σ_48 3 i = _; rw [f1 3 (by decide)]; rfl
    · show TV (σ_48 0) (σ_48 3) N 5 _; rw [f1 0 (by decide), f1 3 (by decide)]; exact hT
    · show lf (σ_48 0) 5 _ k = _; rw [f1 0 (by decide)]; rfl
  exact loop v 0 (by omega) _ _ hC H locs ls w (lv_sub hl [0, 1, 2, 3, 4] rfl)
end
section
set_option maxRecDepth 100000
theorem inb (x : Int32) {k : Nat} (hk : k < 32) : (x.toUInt32 >>> ((nI k).toUInt32 &&& Int32.toUInt32 31)).toInt32 &&& nI 1 = bI (bt x k) := by
  refine b_ext (fun i hi => ?_)
  rw [b_and, b_ushr k hk]
  have h1 : ∀ i, i < 32 → bt (nI 1) i = decide (i = 0) := by decide +kernel
  rw [h1 i hi]
  by_cases e : i = 0
  · subst e
    rw [Nat.add_zero]
    cases bt x k <;> decide
  · rw [decide_eq_false e, Bool.and_false]
    cases bt x k
    · exact (b_0 i).symm
    · have h2 := h1 i hi
      rw [decide_eq_false e] at h2
      exact h2.symm
/-- the sets of the states a + 1 .. a + q together -/
def ors (f : Nat → Int32) (a : Nat) : Nat → Int32
  | 0 => nI 0
  | q + 1 => ors f a q ||| f ((a + 1 + q) % 6)
set_option maxHeartbeats 4000000 in
set_option maxRecDepth 100000 in
theorem m_isT_y (μ : ST) (k : Nat) (hk : k < 4) : KMi WM tM yX1_isTransaction cX1_isTransaction 2 (some .boolean) 0 [.int (nI (k))] μ (fun r σ' => r = nI 1 ∧ σ' = μ) := by
  refine KMi.ofZ (own := RX1) (by decide +kernel) rfl (fun _ => Nat.le_of_ble_eq_true rfl) ?_
  intro p l e s m args below meth c D h ad d A ls Q E w ret hl
  have hx := E.1
  have hb := E.2.1
  have hl : lv_has ls 2 [(0, .ref h), (1, .int (nI (k)))] := hl
  refine lv_iload_n hx hb dX1_isTransaction_0 rfl (lv_at hl 1 rfl) ?_
  refine lv_if_lt (tgt := 13) hx hb dX1_isTransaction_1 (by decide) (fun hn => absurd hn (nI_pos (by omega))) (fun _ => ?_)
  refine lv_iload_n hx hb dX1_isTransaction_4 rfl (lv_at hl 1 rfl) ?_
  refine lv_iconst (v := (nI (3))) hx hb dX1_isTransaction_5 (by decide) ?_
  refine lv_icmp_gt (tgt := 13) hx hb dX1_isTransaction_6 (by decide) (fun hn => absurd hn (nI_nlt (by omega) (by omega))) (fun _ => ?_)
  refine lv_iconst (v := (nI (1))) hx hb dX1_isTransaction_9 (by decide) ?_
  refine lv_goto (tgt := 14) hx hb dX1_isTransaction_10 (by decide) ?_
  exact ret _ _ _ _ _ _ (rfl) (⟨rfl, rfl⟩) w dX1_isTransaction_14
set_option maxHeartbeats 4000000 in
set_option maxRecDepth 100000 in
theorem m_isT_n (μ : ST) (x : Int32) (hbad : x < 0 ∨ nI 3 < x) : KMi WM tM yX1_isTransaction cX1_isTransaction 2 (some .boolean) 0 [.int (x)] μ (fun r σ' => r = nI 0 ∧ σ' = μ) := by
  refine KMi.ofZ (own := RX1) (by decide +kernel) rfl (fun _ => Nat.le_of_ble_eq_true rfl) ?_
  intro p l e s m args below meth c D h ad d A ls Q E w ret hl
  have hx := E.1
  have hb := E.2.1
  have hl : lv_has ls 2 [(0, .ref h), (1, .int (x))] := hl
  refine lv_iload_n hx hb dX1_isTransaction_0 rfl (lv_at hl 1 rfl) ?_
  refine lv_if_lt (tgt := 13) hx hb dX1_isTransaction_1 (by decide) (fun c1 => ?_) (fun c1 => ?_)
  · refine lv_iconst (v := (nI (0))) hx hb dX1_isTransaction_13 (by decide) ?_
    exact ret _ _ _ _ _ _ (rfl) (⟨rfl, rfl⟩) w dX1_isTransaction_14
  · refine lv_iload_n hx hb dX1_isTransaction_4 rfl (lv_at hl 1 rfl) ?_
    refine lv_iconst (v := (nI (3))) hx hb dX1_isTransaction_5 (by decide) ?_
    refine lv_icmp_gt (tgt := 13) hx hb dX1_isTransaction_6 (by decide) (fun _ => ?_) (fun hn => absurd (hbad.resolve_left c1) hn)
    refine lv_iconst (v := (nI (0))) hx hb dX1_isTransaction_13 (by decide) ?_
    exact ret _ _ _ _ _ _ (rfl) (⟨rfl, rfl⟩) w dX1_isTransaction_14
set_option maxHeartbeats 4000000 in
set_option maxRecDepth 100000 in
theorem m_isK_y (μ : ST) (k : Nat) (hk : k < 32) : KMi WM tM yX1_isKey cX1_isKey 2 (some .boolean) 0 [.int (nI (k))] μ (fun r σ' => r = nI 1 ∧ σ' = μ) := by
  refine KMi.ofZ (own := RX1) (by decide +kernel) rfl (fun _ => Nat.le_of_ble_eq_true rfl) ?_
  intro p l e s m args below meth c D h ad d A ls Q E w ret hl
  have hx := E.1
  have hb := E.2.1
  have hl : lv_has ls 2 [(0, .ref h), (1, .int (nI (k)))] := hl
  refine lv_iload_n hx hb dX1_isKey_0 rfl (lv_at hl 1 rfl) ?_
  refine lv_if_lt (tgt := 14) hx hb dX1_isKey_1 (by decide) (fun hn => absurd hn (nI_pos (by omega))) (fun _ => ?_)
  refine lv_iload_n hx hb dX1_isKey_4 rfl (lv_at hl 1 rfl) ?_
  refine lv_bipush (v := (nI (31))) hx hb dX1_isKey_5 (by decide) ?_
  refine lv_icmp_gt (tgt := 14) hx hb dX1_isKey_7 (by decide) (fun hn => absurd hn (nI_nlt (by omega) (by omega))) (fun _ => ?_)
  refine lv_iconst (v := (nI (1))) hx hb dX1_isKey_10 (by decide) ?_
  refine lv_goto (tgt := 15) hx hb dX1_isKey_11 (by decide) ?_
  exact ret _ _ _ _ _ _ (rfl) (⟨rfl, rfl⟩) w dX1_isKey_15
set_option maxHeartbeats 4000000 in
set_option maxRecDepth 100000 in
theorem m_isK_n (μ : ST) (x : Int32) (hbad : x < 0 ∨ nI 31 < x) : KMi WM tM yX1_isKey cX1_isKey 2 (some .boolean) 0 [.int (x)] μ (fun r σ' => r = nI 0 ∧ σ' = μ) := by
  refine KMi.ofZ (own := RX1) (by decide +kernel) rfl (fun _ => Nat.le_of_ble_eq_true rfl) ?_
  intro p l e s m args below meth c D h ad d A ls Q E w ret hl
  have hx := E.1
  have hb := E.2.1
  have hl : lv_has ls 2 [(0, .ref h), (1, .int (x))] := hl
  refine lv_iload_n hx hb dX1_isKey_0 rfl (lv_at hl 1 rfl) ?_
  refine lv_if_lt (tgt := 14) hx hb dX1_isKey_1 (by decide) (fun c1 => ?_) (fun c1 => ?_)
  · refine lv_iconst (v := (nI (0))) hx hb dX1_isKey_14 (by decide) ?_
    exact ret _ _ _ _ _ _ (rfl) (⟨rfl, rfl⟩) w dX1_isKey_15
  · refine lv_iload_n hx hb dX1_isKey_4 rfl (lv_at hl 1 rfl) ?_
    refine lv_bipush (v := (nI (31))) hx hb dX1_isKey_5 (by decide) ?_
    refine lv_icmp_gt (tgt := 14) hx hb dX1_isKey_7 (by decide) (fun _ => ?_) (fun hn => absurd (hbad.resolve_left c1) hn)
    refine lv_iconst (v := (nI (0))) hx hb dX1_isKey_14 (by decide) ?_
    exact ret _ _ _ _ _ _ (rfl) (⟨rfl, rfl⟩) w dX1_isKey_15
set_option maxHeartbeats 4000000 in
set_option maxRecDepth 100000 in
theorem m_in (μ : ST) (x : Int32) (k : Nat) (hk : k < 32) : KMi WM tM yX1_in cX1_in 3 (some .boolean) 0 [.int (x), .int (nI (k))] μ (fun r σ' => r = bI (bt x k) ∧ σ' = μ) := by
  refine KMi.ofZ (own := RX1) (by decide +kernel) rfl (fun _ => Nat.le_of_ble_eq_true rfl) ?_
  intro p l e s m args below meth c D h ad d A ls Q E w ret hl
  have hx := E.1
  have hb := E.2.1
  have hl : lv_has ls 3 [(0, .ref h), (1, .int (x)), (2, .int (nI (k)))] := hl
  refine lv_iload_n hx hb dX1_in_0 rfl (lv_at hl 1 rfl) ?_
  refine lv_iload_n hx hb dX1_in_1 rfl (lv_at hl 2 rfl) ?_
  refine lv_iushr (v := ((x).toUInt32 >>> ((nI (k)).toUInt32 &&& Int32.toUInt32 31)).toInt32) hx hb dX1_in_2 rfl ?_
  refine lv_iconst (v := (nI (1))) hx hb dX1_in_3 (by decide) ?_
  refine lv_iand hx hb dX1_in_4 ?_
  refine g_eq (y := (bI (bt x k))) (inb x hk) ?_
  rcases (Bool.eq_false_or_eq_true (bt x k)) with g | g
  · refine lv_iconst (v := (nI (1))) hx hb dX1_in_5 (by decide) ?_
    refine lv_icmp_ne (tgt := 13) hx hb dX1_in_6 (by decide) (fun hn => absurd hn (fun z => z (by rw [g]; rfl))) (fun _ => ?_)
    refine lv_iconst (v := (nI (1))) hx hb dX1_in_9 (by decide) ?_
    refine lv_goto (tgt := 14) hx hb dX1_in_10 (by decide) ?_
    exact ret _ _ _ _ _ _ (rfl) (⟨by rw [g]; rfl, rfl⟩) w dX1_in_14
  · refine lv_iconst (v := (nI (1))) hx hb dX1_in_5 (by decide) ?_
    refine lv_icmp_ne (tgt := 13) hx hb dX1_in_6 (by decide) (fun _ => ?_) (fun hn => absurd hn (by rw [g]; decide))
    refine lv_iconst (v := (nI (0))) hx hb dX1_in_13 (by decide) ?_
    exact ret _ _ _ _ _ _ (rfl) (⟨by rw [g]; rfl, rfl⟩) w dX1_in_14
set_option maxHeartbeats 4000000 in
set_option maxRecDepth 100000 in
theorem m_sizeOf (μ : ST) (x : Int32) : KMi WM tM yX1_sizeOf cX1_sizeOf 4 (some .int) 1 [.int (x)] μ (fun r σ' => r = nI (fb_ct (bt x) 32) ∧ σ' = μ) := by
  refine KMi.ofI (own := RX1) (by decide +kernel) rfl (fun _ => Nat.le_of_ble_eq_true rfl) ?_
  intro p l e s m args below meth c D h ad d A ls Q E w ret hl
  have hx := E.1
  have hb := E.2.1
  have hl : lv_has ls 4 [(0, .ref h), (1, .int (x))] := hl
  refine lv_iconst (v := (nI (0))) hx hb dX1_sizeOf_0 (by decide) ?_
  refine lv_istore_n (lv' := [(2, .int (nI (0))), (0, .ref h), (1, .int (x))]) hx hb dX1_sizeOf_1 rfl hl (by decide) rfl (fun ls hl => ?_)
  refine lv_iconst (v := (nI (0))) hx hb dX1_sizeOf_2 (by decide) ?_
  refine lv_istore_n (lv' := [(3, .int (nI (0))), (2, .int (nI (0))), (0, .ref h), (1, .int (x))]) hx hb dX1_sizeOf_3 rfl hl (by decide) rfl (fun ls hl => ?_)
  have loop : ∀ (u q : Nat), q + u = 32 → ∀ (H : Heap) (locs : List Loc) (ls : Array Slot), GW D A s.heap s (tM d) (WM h ad d μ) H locs → lv_has ls 4 [(3, .int (nI (q))), (2, .int (nI (fb_ct (bt x) q))), (0, .ref h), (1, .int (x))] → W p l e (rm 1) s m args below meth c H locs 0 0 Q (F0 m 4 ls []) := by
    intro u
    induction u with
    | zero =>
      intro q hq H locs ls w hl
      refine lv_iload_n hx hb dX1_sizeOf_4 rfl (lv_at hl 0 rfl) ?_
      refine lv_bipush (v := (nI (32))) hx hb dX1_sizeOf_5 (by decide) ?_
      refine lv_icmp_ge (tgt := 28) hx hb dX1_sizeOf_7 (by decide) (fun _ => ?_) (fun hn => absurd (nI_le (by omega) (by omega)) hn)
      refine lv_iload_n hx hb dX1_sizeOf_28 rfl (lv_at hl 1 rfl) ?_
      exact ret _ _ _ _ _ _ (⟨by rw [show q = 32 by omega], rfl⟩) w dX1_sizeOf_29
    | succ u ih =>
      intro q hq H locs ls w hl
      refine lv_iload_n hx hb dX1_sizeOf_4 rfl (lv_at hl 0 rfl) ?_
      refine lv_bipush (v := (nI (32))) hx hb dX1_sizeOf_5 (by decide) ?_
      refine lv_icmp_ge (tgt := 28) hx hb dX1_sizeOf_7 (by decide) (fun hn => absurd hn (nI_ge (by omega) (by omega))) (fun _ => ?_)
      refine lv_aload_n hx hb dX1_sizeOf_10 rfl (lv_at hl 2 rfl) ?_
      refine lv_iload_n hx hb dX1_sizeOf_11 rfl (lv_at hl 3 rfl) ?_
      refine lv_iload_n hx hb dX1_sizeOf_12 rfl (lv_at hl 0 rfl) ?_
      refine k_calli (ci := 1) (C := RX1) (T := TX1) (N := 10) (m_in μ x q (by omega)) E w q260 q262 qs16 q21 q263 rfl rfl 2 rfl (by decide +kernel) ⟨Nat.le_of_ble_eq_true rfl, Nat.le_of_ble_eq_true rfl⟩ hl.1 rfl (Nat.le_of_ble_eq_true rfl) dX1_sizeOf_13 ⟨Nat.zero_le _, Nat.zero_le _⟩ (fun r_13 σ_13 H locs hp_13 w => ?_)
      obtain ⟨e1, e2⟩ := hp_13
      rw [e2] at w
      refine g_eq (y := (bI ((bt x) q))) (e1) ?_
      refine lv_if_eq (tgt := 22) hx hb dX1_sizeOf_16 (by decide) (fun c1 => ?_) (fun c1 => ?_)
      · refine lv_iinc (v := (nI (q + 1))) (lv' := [(3, .int (nI (q + 1))), (2, .int (nI (fb_ct (bt x) q))), (0, .ref h), (1, .int (x))]) hx hb dX1_sizeOf_22 hl (k := 0) rfl (nI_1 (q)) (by decide) rfl (fun ls hl => ?_)
        refine lv_goto (tgt := 4) hx hb dX1_sizeOf_25 (by decide) ?_
        have hc : fb_ct (bt x) (q + 1) = fb_ct (bt x) q := by rw [fb_ct_succ, bI_eq0.mp c1]; rfl
        rw [← hc] at hl
        exact ih (q + 1) (by omega) H locs ls w hl
      · refine lv_iinc (v := (nI (fb_ct (bt x) q + 1))) (lv' := [(2, .int (nI (fb_ct (bt x) q + 1))), (3, .int (nI (q))), (0, .ref h), (1, .int (x))]) hx hb dX1_sizeOf_19 hl (k := 1) rfl (nI_1 (fb_ct (bt x) q)) (by decide) rfl (fun ls hl => ?_)
        refine lv_iinc (v := (nI (q + 1))) (lv' := [(3, .int (nI (q + 1))), (2, .int (nI (fb_ct (bt x) q + 1))), (0, .ref h), (1, .int (x))]) hx hb dX1_sizeOf_22 hl (k := 1) rfl (nI_1 (q)) (by decide) rfl (fun ls hl => ?_)
        refine lv_goto (tgt := 4) hx hb dX1_sizeOf_25 (by decide) ?_
        have hc : fb_ct (bt x) (q + 1) = fb_ct (bt x) q + 1 := by rw [fb_ct_succ, bI_ne0 c1]; rfl
        rw [← hc] at hl
        exact ih (q + 1) (by omega) H locs ls w hl
  exact loop 32 0 (by omega) s.heap [] ls w hl
set_option maxHeartbeats 4000000 in
set_option maxRecDepth 100000 in
theorem m_begin_bad (μ : ST) (t : Int32) (hbad : t < 0 ∨ nI 3 < t) : KMi WM tM yX1_begin cX1_begin 3 (some .int) 1 [.int (t)] μ (fun r σ' => r = -1 ∧ σ' = μ) := by
  refine KMi.ofI (own := RX1) (by decide +kernel) rfl (fun _ => Nat.le_of_ble_eq_true rfl) ?_
  intro p l e s m args below meth c D h ad d A ls Q E w ret hl
  have hx := E.1
  have hb := E.2.1
  have hl : lv_has ls 3 [(0, .ref h), (1, .int (t))] := hl
  refine lv_aload_n hx hb dX1_begin_0 rfl (lv_at hl 0 rfl) ?_
  refine lv_iload_n hx hb dX1_begin_1 rfl (lv_at hl 1 rfl) ?_
  refine k_calli (ci := 1) (C := RX1) (T := TX1) (N := 10) (m_isT_n μ t (hbad)) E w q240 q242 qs12 q21 q243 rfl rfl 1 rfl (by decide +kernel) ⟨Nat.le_of_ble_eq_true rfl, Nat.le_of_ble_eq_true rfl⟩ hl.1 rfl (Nat.le_of_ble_eq_true rfl) dX1_begin_2 ⟨Nat.zero_le _, Nat.zero_le _⟩ (fun r_2 σ_2 H locs hp_2 w => ?_)
  obtain ⟨e1, e2⟩ := hp_2
  rw [e2] at w
  refine g_eq (y := (nI (0))) (e1) ?_
  refine lv_if_ne (tgt := 10) hx hb dX1_begin_5 (by decide) (fun hn => absurd hn (fun z => z nI_0)) (fun _ => ?_)
  refine lv_iconst (v := (-1)) hx hb dX1_begin_8 (by decide) ?_
  exact ret _ _ _ _ _ _ (⟨rfl, rfl⟩) w dX1_begin_9
set_option maxHeartbeats 4000000 in
set_option maxRecDepth 100000 in
theorem m_begin_op (μ : ST) (t : Nat) (ht : t < 4) (ho : ¬ μ 4 t = 0) : KMi WM tM yX1_begin cX1_begin 3 (some .int) 1 [.int (nI (t))] μ (fun r σ' => r = -2 ∧ σ' = μ) := by
  refine KMi.ofI (own := RX1) (by decide +kernel) rfl (fun _ => Nat.le_of_ble_eq_true rfl) ?_
  intro p l e s m args below meth c D h ad d A ls Q E w ret hl
  have hx := E.1
  have hb := E.2.1
  have hl : lv_has ls 3 [(0, .ref h), (1, .int (nI (t)))] := hl
  refine lv_aload_n hx hb dX1_begin_0 rfl (lv_at hl 0 rfl) ?_
  refine lv_iload_n hx hb dX1_begin_1 rfl (lv_at hl 1 rfl) ?_
  refine k_calli (ci := 1) (C := RX1) (T := TX1) (N := 10) (m_isT_y μ t ht) E w q240 q242 qs12 q21 q243 rfl rfl 1 rfl (by decide +kernel) ⟨Nat.le_of_ble_eq_true rfl, Nat.le_of_ble_eq_true rfl⟩ hl.1 rfl (Nat.le_of_ble_eq_true rfl) dX1_begin_2 ⟨Nat.zero_le _, Nat.zero_le _⟩ (fun r_2 σ_2 H locs hp_2 w => ?_)
  obtain ⟨e1, e2⟩ := hp_2
  rw [e2] at w
  refine g_eq (y := (nI (1))) (e1) ?_
  refine lv_if_ne (tgt := 10) hx hb dX1_begin_5 (by decide) (fun _ => ?_) (fun hn => absurd hn (by decide))
  refine lv_aload_n hx hb dX1_begin_10 rfl (lv_at hl 0 rfl) ?_
  refine m_get (v := .ref (ad 4)) E w 4 (by decide) q209 rfl dX1_begin_11 ?_
  refine lv_iload_n hx hb dX1_begin_14 rfl (lv_at hl 1 rfl) ?_
  refine g_zald (f := μ 4) E w 4 3 rfl rfl (by omega) (by decide) dX1_begin_15 ?_
  refine lv_if_eq (tgt := 22) hx hb dX1_begin_16 (by decide) (fun hn => absurd hn (ho)) (fun _ => ?_)
  refine lv_bipush (v := (-2)) hx hb dX1_begin_19 (by decide) ?_
  exact ret _ _ _ _ _ _ (⟨rfl, rfl⟩) w dX1_begin_21
set_option maxHeartbeats 4000000 in
set_option maxRecDepth 100000 in
theorem m_begin (μ : ST) (t : Nat) (L : Nat) (hL : μ 0 0 = nI L) (hL2 : L < 1000) (ht : t < 4) (ho : μ 4 t = 0) (hz1 : ∀ j, j < 192 → vp_nar .boolean (μ 1 j) = μ 1 j) : KMi WM tM yX1_begin cX1_begin 3 (some .int) 1 [.int (nI (t))] μ (fun r σ' => r = nI L ∧ (∀ a, a ≠ 5 → a ≠ 6 → σ' a = (su (su (su (su μ 4 (t) (nI (1))) 7 (t) (nI (0))) 8 (t) (nI (0))) 9 (t) (nI (0))) a) ∧ σ' 5 = fb_put (μ 5) (fun q => μ 1 (32 * (L % 6) + q)) (32 * t) 32 ∧ σ' 6 = fb_put (μ 6) (fun q => μ 2 (32 * (L % 6) + q)) (32 * t) 32) := by
  refine KMi.ofI (own := RX1) (by decide +kernel) rfl (fun _ => Nat.le_of_ble_eq_true rfl) ?_
  intro p l e s m args below meth c D h ad d A ls Q E w ret hl
  have hx := E.1
  have hb := E.2.1
  have hl : lv_has ls 3 [(0, .ref h), (1, .int (nI (t)))] := hl
  refine lv_aload_n hx hb dX1_begin_0 rfl (lv_at hl 0 rfl) ?_
  refine lv_iload_n hx hb dX1_begin_1 rfl (lv_at hl 1 rfl) ?_
  refine k_calli (ci := 1) (C := RX1) (T := TX1) (N := 10) (m_isT_y μ t ht) E w q240 q242 qs12 q21 q243 rfl rfl 1 rfl (by decide +kernel) ⟨Nat.le_of_ble_eq_true rfl, Nat.le_of_ble_eq_true rfl⟩ hl.1 rfl (Nat.le_of_ble_eq_true rfl) dX1_begin_2 ⟨Nat.zero_le _, Nat.zero_le _⟩ (fun r_2 σ_2 H locs hp_2 w => ?_)
  obtain ⟨e1, e2⟩ := hp_2
  rw [e2] at w
  refine g_eq (y := (nI (1))) (e1) ?_
  refine lv_if_ne (tgt := 10) hx hb dX1_begin_5 (by decide) (fun _ => ?_) (fun hn => absurd hn (by decide))
  refine lv_aload_n hx hb dX1_begin_10 rfl (lv_at hl 0 rfl) ?_
  refine m_get (v := .ref (ad 4)) E w 4 (by decide) q209 rfl dX1_begin_11 ?_
  refine lv_iload_n hx hb dX1_begin_14 rfl (lv_at hl 1 rfl) ?_
  refine g_zald (f := μ 4) E w 4 3 rfl rfl (by omega) (by decide) dX1_begin_15 ?_
  refine lv_if_eq (tgt := 22) hx hb dX1_begin_16 (by decide) (fun _ => ?_) (fun hn => absurd (ho) hn)
  refine lv_aload_n hx hb dX1_begin_22 rfl (lv_at hl 0 rfl) ?_
  refine m_get (v := .ref (ad 4)) E w 4 (by decide) q209 rfl dX1_begin_23 ?_
  refine lv_iload_n hx hb dX1_begin_26 rfl (lv_at hl 1 rfl) ?_
  refine lv_iconst (v := (nI (1))) hx hb dX1_begin_27 (by decide) ?_
  refine g_zast (f := μ 4) (ws' := WM h ad d (su μ 4 (t) (nI (1)))) E w 4 3 rfl rfl (by omega) (by decide) (rfl) rfl dX1_begin_28 (fun H locs w => ?_)
  refine lv_aload_n hx hb dX1_begin_29 rfl (lv_at hl 0 rfl) ?_
  refine m_get (v := .ref (ad 7)) E w 7 (by decide) q212 rfl dX1_begin_30 ?_
  refine lv_iload_n hx hb dX1_begin_33 rfl (lv_at hl 1 rfl) ?_
  refine lv_iconst (v := (nI (0))) hx hb dX1_begin_34 (by decide) ?_
  refine g_iast (f := μ 7) (ws' := WM h ad d (su (su μ 4 (t) (nI (1))) 7 (t) (nI (0)))) E w 7 6 rfl rfl (by omega) (by decide) rfl dX1_begin_35 (fun H locs w => ?_)
  refine lv_aload_n hx hb dX1_begin_36 rfl (lv_at hl 0 rfl) ?_
  refine m_get (v := .ref (ad 8)) E w 8 (by decide) q213 rfl dX1_begin_37 ?_
  refine lv_iload_n hx hb dX1_begin_40 rfl (lv_at hl 1 rfl) ?_
  refine lv_iconst (v := (nI (0))) hx hb dX1_begin_41 (by decide) ?_
  refine g_iast (f := μ 8) (ws' := WM h ad d (su (su (su μ 4 (t) (nI (1))) 7 (t) (nI (0))) 8 (t) (nI (0)))) E w 8 7 rfl rfl (by omega) (by decide) rfl dX1_begin_42 (fun H locs w => ?_)
  refine lv_aload_n hx hb dX1_begin_43 rfl (lv_at hl 0 rfl) ?_
  refine m_get (v := .ref (ad 9)) E w 9 (by decide) q214 rfl dX1_begin_44 ?_
  refine lv_iload_n hx hb dX1_begin_47 rfl (lv_at hl 1 rfl) ?_
  refine lv_iconst (v := (nI (0))) hx hb dX1_begin_48 (by decide) ?_
  refine g_iast (f := μ 9) (ws' := WM h ad d (su (su (su (su μ 4 (t) (nI (1))) 7 (t) (nI (0))) 8 (t) (nI (0))) 9 (t) (nI (0)))) E w 9 8 rfl rfl (by omega) (by decide) rfl dX1_begin_49 (fun H locs w => ?_)
  refine lv_iconst (v := (nI (0))) hx hb dX1_begin_50 (by decide) ?_
  refine lv_istore_n (lv' := [(2, .int (nI (0))), (0, .ref h), (1, .int (nI (t)))]) hx hb dX1_begin_51 rfl hl (by decide) rfl (fun ls hl => ?_)
  have loop : ∀ (u q : Nat), q + u = 32 → ∀ (μ1 : ST), (∀ a, a ≠ 5 → a ≠ 6 → μ1 a = (su (su (su (su μ 4 (t) (nI (1))) 7 (t) (nI (0))) 8 (t) (nI (0))) 9 (t) (nI (0))) a) → μ1 5 = fb_put (μ 5) (fun q => μ 1 (32 * (L % 6) + q)) (32 * t) q → μ1 6 = fb_put (μ 6) (fun q => μ 2 (32 * (L % 6) + q)) (32 * t) q → ∀ (H : Heap) (locs : List Loc) (ls : Array Slot), GW D A s.heap s (tM d) (WM h ad d μ1) H locs → lv_has ls 3 [(2, .int (nI (q))), (0, .ref h), (1, .int (nI (t)))] → W p l e (rm 1) s m args below meth c H locs 0 0 Q (F0 m 52 ls []) := by
    intro u
    induction u with
    | zero =>
      intro q hq μ1 hr h5 h6 H locs ls w hl
      have hq : q = 32 := by omega
      subst hq
      have g0 : μ1 0 0 = nI L := by rw [hr 0 (by decide) (by decide)]; exact hL
      refine lv_iload_n hx hb dX1_begin_52 rfl (lv_at hl 0 rfl) ?_
      refine lv_bipush (v := (nI (32))) hx hb dX1_begin_53 (by decide) ?_
      refine lv_icmp_ge (tgt := 120) hx hb dX1_begin_55 (by decide) (fun _ => ?_) (fun hn => absurd (nI_le (by omega) (by omega)) hn)
      refine lv_aload_n hx hb dX1_begin_120 rfl (lv_at hl 1 rfl) ?_
      refine m_get (v := .int (μ1 0 0)) E w 0 (by decide) q205 rfl dX1_begin_121 ?_
      refine g_eq (y := (nI (L))) (g0) ?_
      exact ret _ _ _ _ _ _ (⟨rfl, hr, h5, h6⟩) w dX1_begin_124
    | succ u ih =>
      intro q hq μ1 hr h5 h6 H locs ls w hl
      have g0 : μ1 0 0 = nI L := by rw [hr 0 (by decide) (by decide)]; exact hL
      have g1 : μ1 1 = μ 1 := hr 1 (by decide) (by decide)
      have g2 : μ1 2 = μ 2 := hr 2 (by decide) (by decide)
      have hL6 : L % 6 < 6 := Nat.mod_lt _ (by decide)
      refine lv_iload_n hx hb dX1_begin_52 rfl (lv_at hl 0 rfl) ?_
      refine lv_bipush (v := (nI (32))) hx hb dX1_begin_53 (by decide) ?_
      refine lv_icmp_ge (tgt := 120) hx hb dX1_begin_55 (by decide) (fun hn => absurd hn (nI_ge (by omega) (by omega))) (fun _ => ?_)
      refine lv_aload_n hx hb dX1_begin_58 rfl (lv_at hl 1 rfl) ?_
      refine m_get (v := .ref (ad 5)) E w 5 (by decide) q210 rfl dX1_begin_59 ?_
      refine lv_bipush (v := (nI (32))) hx hb dX1_begin_62 (by decide) ?_
      refine lv_iload_n hx hb dX1_begin_64 rfl (lv_at hl 2 rfl) ?_
      refine n_imul hx hb dX1_begin_65 ?_
      refine lv_iload_n hx hb dX1_begin_66 rfl (lv_at hl 0 rfl) ?_
      refine n_iadd hx hb dX1_begin_67 ?_
      refine lv_aload_n hx hb dX1_begin_68 rfl (lv_at hl 1 rfl) ?_
      refine m_get (v := .ref (ad 1)) E w 1 (by decide) q206 rfl dX1_begin_69 ?_
      refine lv_bipush (v := (nI (32))) hx hb dX1_begin_72 (by decide) ?_
      refine lv_aload_n hx hb dX1_begin_74 rfl (lv_at hl 1 rfl) ?_
      refine m_get (v := .int (μ1 0 0)) E w 0 (by decide) q205 rfl dX1_begin_75 ?_
      refine g_eq (y := (nI (L))) (g0) ?_
      refine lv_bipush (v := (nI (6))) hx hb dX1_begin_78 (by decide) ?_
      refine n_irem (by omega) (by decide) (by decide) hx hb dX1_begin_80 ?_
      refine n_imul hx hb dX1_begin_81 ?_
      refine lv_iload_n hx hb dX1_begin_82 rfl (lv_at hl 0 rfl) ?_
      refine n_iadd hx hb dX1_begin_83 ?_
      refine g_zald (f := μ1 1) E w 1 0 rfl rfl (by omega) (by decide) dX1_begin_84 ?_
      refine g_eq (y := (μ 1 (32 * (L % 6) + q))) (by rw [g1]) ?_
      refine g_zast (f := μ1 5) (ws' := WM h ad d (su μ1 5 ((32 * t) + q) (μ 1 (32 * (L % 6) + q)))) E w 5 4 rfl rfl (by omega) (by decide) (hz1 _ (by omega)) rfl dX1_begin_85 (fun H locs w => ?_)
      refine lv_aload_n hx hb dX1_begin_86 rfl (lv_at hl 1 rfl) ?_
      refine m_get (v := .ref (ad 6)) E w 6 (by decide) q211 rfl dX1_begin_87 ?_
      refine lv_bipush (v := (nI (32))) hx hb dX1_begin_90 (by decide) ?_
      refine lv_iload_n hx hb dX1_begin_92 rfl (lv_at hl 2 rfl) ?_
      refine n_imul hx hb dX1_begin_93 ?_
      refine lv_iload_n hx hb dX1_begin_94 rfl (lv_at hl 0 rfl) ?_
      refine n_iadd hx hb dX1_begin_95 ?_
      refine lv_aload_n hx hb dX1_begin_96 rfl (lv_at hl 1 rfl) ?_
      refine m_get (v := .ref (ad 2)) E w 2 (by decide) q207 rfl dX1_begin_97 ?_
      refine lv_bipush (v := (nI (32))) hx hb dX1_begin_100 (by decide) ?_
      refine lv_aload_n hx hb dX1_begin_102 rfl (lv_at hl 1 rfl) ?_
      refine m_get (v := .int (μ1 0 0)) E w 0 (by decide) q205 rfl dX1_begin_103 ?_
      refine g_eq (y := (nI (L))) (g0) ?_
      refine lv_bipush (v := (nI (6))) hx hb dX1_begin_106 (by decide) ?_
      refine n_irem (by omega) (by decide) (by decide) hx hb dX1_begin_108 ?_
      refine n_imul hx hb dX1_begin_109 ?_
      refine lv_iload_n hx hb dX1_begin_110 rfl (lv_at hl 0 rfl) ?_
      refine n_iadd hx hb dX1_begin_111 ?_
      refine g_iald (f := μ1 2) E w 2 1 rfl rfl (by omega) (by decide) dX1_begin_112 ?_
      refine g_eq (y := (μ 2 (32 * (L % 6) + q))) (by rw [g2]) ?_
      refine g_iast (f := μ1 6) (ws' := WM h ad d (su (su μ1 5 ((32 * t) + q) (μ 1 (32 * (L % 6) + q))) 6 ((32 * t) + q) (μ 2 (32 * (L % 6) + q)))) E w 6 5 rfl rfl (by omega) (by decide) rfl dX1_begin_113 (fun H locs w => ?_)
      refine lv_iinc (v := (nI (q + 1))) (lv' := [(2, .int (nI (q + 1))), (0, .ref h), (1, .int (nI (t)))]) hx hb dX1_begin_114 hl (k := 0) rfl (nI_1 (q)) (by decide) rfl (fun ls hl => ?_)
      refine lv_goto (tgt := 52) hx hb dX1_begin_117 (by decide) ?_
      refine ih (q + 1) (by omega) _ (fun a h5 h6 => ?_) ?_ ?_ H locs ls w hl
      · rw [su_ne _ _ _ h6, su_ne _ _ _ h5]; exact hr a h5 h6
      · show upd (μ1 5) (32 * t + q) ((fun q => μ 1 (32 * (L % 6) + q)) q) = _; rw [h5, fb_put_succ]
      · show upd (μ1 6) (32 * t + q) ((fun q => μ 2 (32 * (L % 6) + q)) q) = _; rw [h6, fb_put_succ]
  exact loop 32 0 (by omega) _ (fun _ _ _ => rfl) (fb_put_0 _ _ _).symm (fb_put_0 _ _ _).symm H locs ls w hl
set_option maxHeartbeats 4000000 in
set_option maxRecDepth 100000 in
theorem m_give_badt (μ : ST) (t k : Int32) (b x : Int32) (hbad : t < 0 ∨ nI 3 < t) : KMi WM tM yX1_give cX1_give 6 (some .int) 2 [.int (t), .int (k), .int (b), .int (x)] μ (fun r σ' => r = -1 ∧ σ' = μ) := by
  refine KMi.ofI (own := RX1) (by decide +kernel) rfl (fun _ => Nat.le_of_ble_eq_true rfl) ?_
  intro p l e s m args below meth c D h ad d A ls Q E w ret hl
  have hx := E.1
  have hb := E.2.1
  have hl : lv_has ls 6 [(0, .ref h), (1, .int (t)), (2, .int (k)), (3, .int (b)), (4, .int (x))] := hl
  refine lv_aload_n hx hb dX1_give_0 rfl (lv_at hl 0 rfl) ?_
  refine lv_iload_n hx hb dX1_give_1 rfl (lv_at hl 1 rfl) ?_
  refine k_calli (ci := 1) (C := RX1) (T := TX1) (N := 10) (m_isT_n μ t (hbad)) E w q240 q242 qs12 q21 q243 rfl rfl 1 rfl (by decide +kernel) ⟨Nat.le_of_ble_eq_true rfl, Nat.le_of_ble_eq_true rfl⟩ hl.1 rfl (Nat.le_of_ble_eq_true rfl) dX1_give_2 ⟨Nat.zero_le _, Nat.zero_le _⟩ (fun r_2 σ_2 H locs hp_2 w => ?_)
  obtain ⟨e1, e2⟩ := hp_2
  rw [e2] at w
  refine g_eq (y := (nI (0))) (e1) ?_
  refine lv_if_eq (tgt := 16) hx hb dX1_give_5 (by decide) (fun _ => ?_) (fun hn => absurd (nI_0) hn)
  refine lv_iconst (v := (-1)) hx hb dX1_give_16 (by decide) ?_
  exact ret _ _ _ _ _ _ (⟨rfl, rfl⟩) w dX1_give_17
set_option maxHeartbeats 4000000 in
set_option maxRecDepth 100000 in
theorem m_give_badk (μ : ST) (t : Nat) (k : Int32) (b x : Int32) (ht : t < 4) (hbad : k < 0 ∨ nI 31 < k) : KMi WM tM yX1_give cX1_give 6 (some .int) 2 [.int (nI (t)), .int (k), .int (b), .int (x)] μ (fun r σ' => r = -1 ∧ σ' = μ) := by
  refine KMi.ofI (own := RX1) (by decide +kernel) rfl (fun _ => Nat.le_of_ble_eq_true rfl) ?_
  intro p l e s m args below meth c D h ad d A ls Q E w ret hl
  have hx := E.1
  have hb := E.2.1
  have hl : lv_has ls 6 [(0, .ref h), (1, .int (nI (t))), (2, .int (k)), (3, .int (b)), (4, .int (x))] := hl
  refine lv_aload_n hx hb dX1_give_0 rfl (lv_at hl 0 rfl) ?_
  refine lv_iload_n hx hb dX1_give_1 rfl (lv_at hl 1 rfl) ?_
  refine k_calli (ci := 1) (C := RX1) (T := TX1) (N := 10) (m_isT_y μ t ht) E w q240 q242 qs12 q21 q243 rfl rfl 1 rfl (by decide +kernel) ⟨Nat.le_of_ble_eq_true rfl, Nat.le_of_ble_eq_true rfl⟩ hl.1 rfl (Nat.le_of_ble_eq_true rfl) dX1_give_2 ⟨Nat.zero_le _, Nat.zero_le _⟩ (fun r_2 σ_2 H locs hp_2 w => ?_)
  obtain ⟨e1, e2⟩ := hp_2
  rw [e2] at w
  refine g_eq (y := (nI (1))) (e1) ?_
  refine lv_if_eq (tgt := 16) hx hb dX1_give_5 (by decide) (fun hn => absurd hn (by decide)) (fun _ => ?_)
  refine lv_aload_n hx hb dX1_give_8 rfl (lv_at hl 0 rfl) ?_
  refine lv_iload_n hx hb dX1_give_9 rfl (lv_at hl 2 rfl) ?_
  refine k_calli (ci := 1) (C := RX1) (T := TX1) (N := 10) (m_isK_n μ k (hbad)) E w q252 q254 qs14 q21 q255 rfl rfl 1 rfl (by decide +kernel) ⟨Nat.le_of_ble_eq_true rfl, Nat.le_of_ble_eq_true rfl⟩ hl.1 rfl (Nat.le_of_ble_eq_true rfl) dX1_give_10 ⟨Nat.zero_le _, Nat.zero_le _⟩ (fun r_10 σ_10 H locs hp_10 w => ?_)
  obtain ⟨e1, e2⟩ := hp_10
  rw [e2] at w
  refine g_eq (y := (nI (0))) (e1) ?_
  refine lv_if_ne (tgt := 18) hx hb dX1_give_13 (by decide) (fun hn => absurd hn (fun z => z nI_0)) (fun _ => ?_)
  refine lv_iconst (v := (-1)) hx hb dX1_give_16 (by decide) ?_
  exact ret _ _ _ _ _ _ (⟨rfl, rfl⟩) w dX1_give_17
set_option maxHeartbeats 4000000 in
set_option maxRecDepth 100000 in
theorem m_give_cl (μ : ST) (t k : Nat) (b x : Int32) (ht : t < 4) (hk : k < 32) (ho : μ 4 t = 0) : KMi WM tM yX1_give cX1_give 6 (some .int) 2 [.int (nI (t)), .int (nI (k)), .int (b), .int (x)] μ (fun r σ' => r = -3 ∧ σ' = μ) := by
  refine KMi.ofI (own := RX1) (by decide +kernel) rfl (fun _ => Nat.le_of_ble_eq_true rfl) ?_
  intro p l e s m args below meth c D h ad d A ls Q E w ret hl
  have hx := E.1
  have hb := E.2.1
  have hl : lv_has ls 6 [(0, .ref h), (1, .int (nI (t))), (2, .int (nI (k))), (3, .int (b)), (4, .int (x))] := hl
  refine lv_aload_n hx hb dX1_give_0 rfl (lv_at hl 0 rfl) ?_
  refine lv_iload_n hx hb dX1_give_1 rfl (lv_at hl 1 rfl) ?_
  refine k_calli (ci := 1) (C := RX1) (T := TX1) (N := 10) (m_isT_y μ t ht) E w q240 q242 qs12 q21 q243 rfl rfl 1 rfl (by decide +kernel) ⟨Nat.le_of_ble_eq_true rfl, Nat.le_of_ble_eq_true rfl⟩ hl.1 rfl (Nat.le_of_ble_eq_true rfl) dX1_give_2 ⟨Nat.zero_le _, Nat.zero_le _⟩ (fun r_2 σ_2 H locs hp_2 w => ?_)
  obtain ⟨e1, e2⟩ := hp_2
  rw [e2] at w
  refine g_eq (y := (nI (1))) (e1) ?_
  refine lv_if_eq (tgt := 16) hx hb dX1_give_5 (by decide) (fun hn => absurd hn (by decide)) (fun _ => ?_)
  refine lv_aload_n hx hb dX1_give_8 rfl (lv_at hl 0 rfl) ?_
  refine lv_iload_n hx hb dX1_give_9 rfl (lv_at hl 2 rfl) ?_
  refine k_calli (ci := 1) (C := RX1) (T := TX1) (N := 10) (m_isK_y μ k hk) E w q252 q254 qs14 q21 q255 rfl rfl 1 rfl (by decide +kernel) ⟨Nat.le_of_ble_eq_true rfl, Nat.le_of_ble_eq_true rfl⟩ hl.1 rfl (Nat.le_of_ble_eq_true rfl) dX1_give_10 ⟨Nat.zero_le _, Nat.zero_le _⟩ (fun r_10 σ_10 H locs hp_10 w => ?_)
  obtain ⟨e1, e2⟩ := hp_10
  rw [e2] at w
  refine g_eq (y := (nI (1))) (e1) ?_
  refine lv_if_ne (tgt := 18) hx hb dX1_give_13 (by decide) (fun _ => ?_) (fun hn => absurd hn (by decide))
  refine lv_aload_n hx hb dX1_give_18 rfl (lv_at hl 0 rfl) ?_
  refine m_get (v := .ref (ad 4)) E w 4 (by decide) q209 rfl dX1_give_19 ?_
  refine lv_iload_n hx hb dX1_give_22 rfl (lv_at hl 1 rfl) ?_
  refine g_zald (f := μ 4) E w 4 3 rfl rfl (by omega) (by decide) dX1_give_23 ?_
  refine lv_if_ne (tgt := 30) hx hb dX1_give_24 (by decide) (fun hn => absurd hn (fun z => z ho)) (fun _ => ?_)
  refine lv_bipush (v := (-3)) hx hb dX1_give_27 (by decide) ?_
  exact ret _ _ _ _ _ _ (⟨rfl, rfl⟩) w dX1_give_29
set_option maxHeartbeats 4000000 in
set_option maxRecDepth 100000 in
theorem m_give_full (μ : ST) (t k : Nat) (b x : Int32) (ht : t < 4) (hk : k < 32) (ho : ¬ μ 4 t = 0) (hb0 : bt (μ 7 t) k = false) (h6 : fb_ct (bt (μ 7 t)) 32 = 6) : KMi WM tM yX1_give cX1_give 6 (some .int) 2 [.int (nI (t)), .int (nI (k)), .int (b), .int (x)] μ (fun r σ' => r = -4 ∧ σ' = μ) := by
  refine KMi.ofI (own := RX1) (by decide +kernel) rfl (fun _ => Nat.le_of_ble_eq_true rfl) ?_
  intro p l e s m args below meth c D h ad d A ls Q E w ret hl
  have hx := E.1
  have hb := E.2.1
  have hl : lv_has ls 6 [(0, .ref h), (1, .int (nI (t))), (2, .int (nI (k))), (3, .int (b)), (4, .int (x))] := hl
  refine lv_aload_n hx hb dX1_give_0 rfl (lv_at hl 0 rfl) ?_
  refine lv_iload_n hx hb dX1_give_1 rfl (lv_at hl 1 rfl) ?_
  refine k_calli (ci := 1) (C := RX1) (T := TX1) (N := 10) (m_isT_y μ t ht) E w q240 q242 qs12 q21 q243 rfl rfl 1 rfl (by decide +kernel) ⟨Nat.le_of_ble_eq_true rfl, Nat.le_of_ble_eq_true rfl⟩ hl.1 rfl (Nat.le_of_ble_eq_true rfl) dX1_give_2 ⟨Nat.zero_le _, Nat.zero_le _⟩ (fun r_2 σ_2 H locs hp_2 w => ?_)
  obtain ⟨e1, e2⟩ := hp_2
  rw [e2] at w
  refine g_eq (y := (nI (1))) (e1) ?_
  refine lv_if_eq (tgt := 16) hx hb dX1_give_5 (by decide) (fun hn => absurd hn (by decide)) (fun _ => ?_)
  refine lv_aload_n hx hb dX1_give_8 rfl (lv_at hl 0 rfl) ?_
  refine lv_iload_n hx hb dX1_give_9 rfl (lv_at hl 2 rfl) ?_
  refine k_calli (ci := 1) (C := RX1) (T := TX1) (N := 10) (m_isK_y μ k hk) E w q252 q254 qs14 q21 q255 rfl rfl 1 rfl (by decide +kernel) ⟨Nat.le_of_ble_eq_true rfl, Nat.le_of_ble_eq_true rfl⟩ hl.1 rfl (Nat.le_of_ble_eq_true rfl) dX1_give_10 ⟨Nat.zero_le _, Nat.zero_le _⟩ (fun r_10 σ_10 H locs hp_10 w => ?_)
  obtain ⟨e1, e2⟩ := hp_10
  rw [e2] at w
  refine g_eq (y := (nI (1))) (e1) ?_
  refine lv_if_ne (tgt := 18) hx hb dX1_give_13 (by decide) (fun _ => ?_) (fun hn => absurd hn (by decide))
  refine lv_aload_n hx hb dX1_give_18 rfl (lv_at hl 0 rfl) ?_
  refine m_get (v := .ref (ad 4)) E w 4 (by decide) q209 rfl dX1_give_19 ?_
  refine lv_iload_n hx hb dX1_give_22 rfl (lv_at hl 1 rfl) ?_
  refine g_zald (f := μ 4) E w 4 3 rfl rfl (by omega) (by decide) dX1_give_23 ?_
  refine lv_if_ne (tgt := 30) hx hb dX1_give_24 (by decide) (fun _ => ?_) (fun hn => absurd hn (ho))
  refine lv_aload_n hx hb dX1_give_30 rfl (lv_at hl 0 rfl) ?_
  refine lv_aload_n hx hb dX1_give_31 rfl (lv_at hl 0 rfl) ?_
  refine m_get (v := .ref (ad 7)) E w 7 (by decide) q212 rfl dX1_give_32 ?_
  refine lv_iload_n hx hb dX1_give_35 rfl (lv_at hl 1 rfl) ?_
  refine g_iald (f := μ 7) E w 7 6 rfl rfl (by omega) (by decide) dX1_give_36 ?_
  refine k_calli (ci := 1) (C := RX1) (T := TX1) (N := 10) (m_sizeOf μ (μ 7 t)) E w q256 q258 qs15 q21 q259 rfl rfl 1 rfl (by decide +kernel) ⟨Nat.le_of_ble_eq_true rfl, Nat.le_of_ble_eq_true rfl⟩ hl.1 rfl (Nat.le_of_ble_eq_true rfl) dX1_give_37 ⟨Nat.zero_le _, Nat.zero_le _⟩ (fun r_37 σ_37 H locs hp_37 w => ?_)
  obtain ⟨e1, e2⟩ := hp_37
  rw [e2] at w
  refine g_eq (y := (nI (fb_ct (bt (μ 7 t)) 32))) (e1) ?_
  refine lv_istore (lv' := [(5, .int (nI (fb_ct (bt (μ 7 t)) 32))), (0, .ref h), (1, .int (nI (t))), (2, .int (nI (k))), (3, .int (b)), (4, .int (x))]) hx hb dX1_give_40 hl (by decide) rfl (fun ls hl => ?_)
  refine lv_aload_n hx hb dX1_give_42 rfl (lv_at hl 1 rfl) ?_
  refine lv_aload_n hx hb dX1_give_43 rfl (lv_at hl 1 rfl) ?_
  refine m_get (v := .ref (ad 7)) E w 7 (by decide) q212 rfl dX1_give_44 ?_
  refine lv_iload_n hx hb dX1_give_47 rfl (lv_at hl 2 rfl) ?_
  refine g_iald (f := μ 7) E w 7 6 rfl rfl (by omega) (by decide) dX1_give_48 ?_
  refine lv_iload_n hx hb dX1_give_49 rfl (lv_at hl 3 rfl) ?_
  refine k_calli (ci := 1) (C := RX1) (T := TX1) (N := 10) (m_in μ (μ 7 t) k hk) E w q260 q262 qs16 q21 q263 rfl rfl 2 rfl (by decide +kernel) ⟨Nat.le_of_ble_eq_true rfl, Nat.le_of_ble_eq_true rfl⟩ hl.1 rfl (Nat.le_of_ble_eq_true rfl) dX1_give_50 ⟨Nat.zero_le _, Nat.zero_le _⟩ (fun r_50 σ_50 H locs hp_50 w => ?_)
  obtain ⟨e1, e2⟩ := hp_50
  rw [e2] at w
  refine g_eq (y := (nI (0))) (by rw [e1, hb0]; rfl) ?_
  refine lv_if_ne (tgt := 66) hx hb dX1_give_53 (by decide) (fun hn => absurd hn (fun z => z nI_0)) (fun _ => ?_)
  refine lv_iload hx hb dX1_give_56 (lv_at hl 0 rfl) ?_
  refine lv_bipush (v := (nI (6))) hx hb dX1_give_58 (by decide) ?_
  refine lv_icmp_ne (tgt := 66) hx hb dX1_give_60 (by decide) (fun hn => absurd hn (fun z => z (by rw [h6]))) (fun _ => ?_)
  refine lv_bipush (v := (-4)) hx hb dX1_give_63 (by decide) ?_
  exact ret _ _ _ _ _ _ (⟨rfl, rfl⟩) w dX1_give_65
set_option maxHeartbeats 4000000 in
set_option maxRecDepth 100000 in
theorem m_give (μ : ST) (t k : Nat) (b x : Int32) (ht : t < 4) (hk : k < 32) (ho : ¬ μ 4 t = 0) (hbn : vp_nar .boolean b = b) (hg : bt (μ 7 t) k = true ∨ ¬ fb_ct (bt (μ 7 t)) 32 = 6) : KMi WM tM yX1_give cX1_give 6 (some .int) 2 [.int (nI (t)), .int (nI (k)), .int (b), .int (x)] μ (fun r σ' => r = nI (fb_ct (bt (μ 7 t ||| (nI 1 <<< (nI k &&& 31)))) 32) ∧ σ' = su (su (su μ 7 (t) (μ 7 t ||| (nI 1 <<< (nI k &&& 31)))) 5 (32 * t + k) b) 6 (32 * t + k) x) := by
  refine KMi.ofI (own := RX1) (by decide +kernel) rfl (fun _ => Nat.le_of_ble_eq_true rfl) ?_
  intro p l e s m args below meth c D h ad d A ls Q E w ret hl
  have hx := E.1
  have hb := E.2.1
  have hl : lv_has ls 6 [(0, .ref h), (1, .int (nI (t))), (2, .int (nI (k))), (3, .int (b)), (4, .int (x))] := hl
  refine lv_aload_n hx hb dX1_give_0 rfl (lv_at hl 0 rfl) ?_
  refine lv_iload_n hx hb dX1_give_1 rfl (lv_at hl 1 rfl) ?_
  refine k_calli (ci := 1) (C := RX1) (T := TX1) (N := 10) (m_isT_y μ t ht) E w q240 q242 qs12 q21 q243 rfl rfl 1 rfl (by decide +kernel) ⟨Nat.le_of_ble_eq_true rfl, Nat.le_of_ble_eq_true rfl⟩ hl.1 rfl (Nat.le_of_ble_eq_true rfl) dX1_give_2 ⟨Nat.zero_le _, Nat.zero_le _⟩ (fun r_2 σ_2 H locs hp_2 w => ?_)
  obtain ⟨e1, e2⟩ := hp_2
  rw [e2] at w
  refine g_eq (y := (nI (1))) (e1) ?_
  refine lv_if_eq (tgt := 16) hx hb dX1_give_5 (by decide) (fun hn => absurd hn (by decide)) (fun _ => ?_)
  refine lv_aload_n hx hb dX1_give_8 rfl (lv_at hl 0 rfl) ?_
  refine lv_iload_n hx hb dX1_give_9 rfl (lv_at hl 2 rfl) ?_
  refine k_calli (ci := 1) (C := RX1) (T := TX1) (N := 10) (m_isK_y μ k hk) E w q252 q254 qs14 q21 q255 rfl rfl 1 rfl (by decide +kernel) ⟨Nat.le_of_ble_eq_true rfl, Nat.le_of_ble_eq_true rfl⟩ hl.1 rfl (Nat.le_of_ble_eq_true rfl) dX1_give_10 ⟨Nat.zero_le _, Nat.zero_le _⟩ (fun r_10 σ_10 H locs hp_10 w => ?_)
  obtain ⟨e1, e2⟩ := hp_10
  rw [e2] at w
  refine g_eq (y := (nI (1))) (e1) ?_
  refine lv_if_ne (tgt := 18) hx hb dX1_give_13 (by decide) (fun _ => ?_) (fun hn => absurd hn (by decide))
  refine lv_aload_n hx hb dX1_give_18 rfl (lv_at hl 0 rfl) ?_
  refine m_get (v := .ref (ad 4)) E w 4 (by decide) q209 rfl dX1_give_19 ?_
  refine lv_iload_n hx hb dX1_give_22 rfl (lv_at hl 1 rfl) ?_
  refine g_zald (f := μ 4) E w 4 3 rfl rfl (by omega) (by decide) dX1_give_23 ?_
  refine lv_if_ne (tgt := 30) hx hb dX1_give_24 (by decide) (fun _ => ?_) (fun hn => absurd hn (ho))
  refine lv_aload_n hx hb dX1_give_30 rfl (lv_at hl 0 rfl) ?_
  refine lv_aload_n hx hb dX1_give_31 rfl (lv_at hl 0 rfl) ?_
  refine m_get (v := .ref (ad 7)) E w 7 (by decide) q212 rfl dX1_give_32 ?_
  refine lv_iload_n hx hb dX1_give_35 rfl (lv_at hl 1 rfl) ?_
  refine g_iald (f := μ 7) E w 7 6 rfl rfl (by omega) (by decide) dX1_give_36 ?_
  refine k_calli (ci := 1) (C := RX1) (T := TX1) (N := 10) (m_sizeOf μ (μ 7 t)) E w q256 q258 qs15 q21 q259 rfl rfl 1 rfl (by decide +kernel) ⟨Nat.le_of_ble_eq_true rfl, Nat.le_of_ble_eq_true rfl⟩ hl.1 rfl (Nat.le_of_ble_eq_true rfl) dX1_give_37 ⟨Nat.zero_le _, Nat.zero_le _⟩ (fun r_37 σ_37 H locs hp_37 w => ?_)
  obtain ⟨e1, e2⟩ := hp_37
  rw [e2] at w
  refine g_eq (y := (nI (fb_ct (bt (μ 7 t)) 32))) (e1) ?_
  refine lv_istore (lv' := [(5, .int (nI (fb_ct (bt (μ 7 t)) 32))), (0, .ref h), (1, .int (nI (t))), (2, .int (nI (k))), (3, .int (b)), (4, .int (x))]) hx hb dX1_give_40 hl (by decide) rfl (fun ls hl => ?_)
  refine lv_aload_n hx hb dX1_give_42 rfl (lv_at hl 1 rfl) ?_
  refine lv_aload_n hx hb dX1_give_43 rfl (lv_at hl 1 rfl) ?_
  refine m_get (v := .ref (ad 7)) E w 7 (by decide) q212 rfl dX1_give_44 ?_
  refine lv_iload_n hx hb dX1_give_47 rfl (lv_at hl 2 rfl) ?_
  refine g_iald (f := μ 7) E w 7 6 rfl rfl (by omega) (by decide) dX1_give_48 ?_
  refine lv_iload_n hx hb dX1_give_49 rfl (lv_at hl 3 rfl) ?_
  refine k_calli (ci := 1) (C := RX1) (T := TX1) (N := 10) (m_in μ (μ 7 t) k hk) E w q260 q262 qs16 q21 q263 rfl rfl 2 rfl (by decide +kernel) ⟨Nat.le_of_ble_eq_true rfl, Nat.le_of_ble_eq_true rfl⟩ hl.1 rfl (Nat.le_of_ble_eq_true rfl) dX1_give_50 ⟨Nat.zero_le _, Nat.zero_le _⟩ (fun r_50 σ_50 H locs hp_50 w => ?_)
  obtain ⟨e1, e2⟩ := hp_50
  rw [e2] at w
  refine g_eq (y := (bI (bt (μ 7 t) k))) (e1) ?_
  have rest66 : W p l e (rm 2) s m args below meth c H locs 0 0 Q (F0 m 66 ls []) := by
    refine lv_aload_n hx hb dX1_give_66 rfl (lv_at hl 1 rfl) ?_
    refine m_get (v := .ref (ad 7)) E w 7 (by decide) q212 rfl dX1_give_67 ?_
    refine lv_iload_n hx hb dX1_give_70 rfl (lv_at hl 2 rfl) ?_
    refine lv_aload_n hx hb dX1_give_71 rfl (lv_at hl 1 rfl) ?_
    refine m_get (v := .ref (ad 7)) E w 7 (by decide) q212 rfl dX1_give_72 ?_
    refine lv_iload_n hx hb dX1_give_75 rfl (lv_at hl 2 rfl) ?_
    refine g_iald (f := μ 7) E w 7 6 rfl rfl (by omega) (by decide) dX1_give_76 ?_
    refine lv_iconst (v := (nI (1))) hx hb dX1_give_77 (by decide) ?_
    refine lv_iload_n hx hb dX1_give_78 rfl (lv_at hl 3 rfl) ?_
    refine lv_ishl hx hb dX1_give_79 ?_
    refine lv_ior hx hb dX1_give_80 ?_
    refine g_iast (f := μ 7) (ws' := WM h ad d (su μ 7 (t) (μ 7 t ||| (nI 1 <<< (nI k &&& 31))))) E w 7 6 rfl rfl (by omega) (by decide) rfl dX1_give_81 (fun H locs w => ?_)
    refine lv_aload_n hx hb dX1_give_82 rfl (lv_at hl 1 rfl) ?_
    refine m_get (v := .ref (ad 5)) E w 5 (by decide) q210 rfl dX1_give_83 ?_
    refine lv_bipush (v := (nI (32))) hx hb dX1_give_86 (by decide) ?_
    refine lv_iload_n hx hb dX1_give_88 rfl (lv_at hl 2 rfl) ?_
    refine n_imul hx hb dX1_give_89 ?_
    refine lv_iload_n hx hb dX1_give_90 rfl (lv_at hl 3 rfl) ?_
    refine n_iadd hx hb dX1_give_91 ?_
    refine lv_iload_n hx hb dX1_give_92 rfl (lv_at hl 4 rfl) ?_
    refine g_zast (f := μ 5) (ws' := WM h ad d (su (su μ 7 (t) (μ 7 t ||| (nI 1 <<< (nI k &&& 31)))) 5 ((32 * t) + k) (b))) E w 5 4 rfl rfl (by omega) (by decide) (hbn) rfl dX1_give_93 (fun H locs w => ?_)
    refine lv_aload_n hx hb dX1_give_94 rfl (lv_at hl 1 rfl) ?_
    refine m_get (v := .ref (ad 6)) E w 6 (by decide) q211 rfl dX1_give_95 ?_
    refine lv_bipush (v := (nI (32))) hx hb dX1_give_98 (by decide) ?_
    refine lv_iload_n hx hb dX1_give_100 rfl (lv_at hl 2 rfl) ?_
    refine n_imul hx hb dX1_give_101 ?_
    refine lv_iload_n hx hb dX1_give_102 rfl (lv_at hl 3 rfl) ?_
    refine n_iadd hx hb dX1_give_103 ?_
    refine lv_iload hx hb dX1_give_104 (lv_at hl 5 rfl) ?_
    refine g_iast (f := μ 6) (ws' := WM h ad d (su (su (su μ 7 (t) (μ 7 t ||| (nI 1 <<< (nI k &&& 31)))) 5 ((32 * t) + k) (b)) 6 ((32 * t) + k) (x))) E w 6 5 rfl rfl (by omega) (by decide) rfl dX1_give_106 (fun H locs w => ?_)
    refine lv_aload_n hx hb dX1_give_107 rfl (lv_at hl 1 rfl) ?_
    refine lv_aload_n hx hb dX1_give_108 rfl (lv_at hl 1 rfl) ?_
    refine m_get (v := .ref (ad 7)) E w 7 (by decide) q212 rfl dX1_give_109 ?_
    refine lv_iload_n hx hb dX1_give_112 rfl (lv_at hl 2 rfl) ?_
    refine g_iald (f := upd (μ 7) (t) (μ 7 t ||| (nI 1 <<< (nI k &&& 31)))) E w 7 6 rfl rfl (by omega) (by decide) dX1_give_113 ?_
    refine g_eq (y := (μ 7 t ||| (nI 1 <<< (nI k &&& 31)))) (pk_us) ?_
    refine k_calli (ci := 1) (C := RX1) (T := TX1) (N := 10) (m_sizeOf (su (su (su μ 7 (t) (μ 7 t ||| (nI 1 <<< (nI k &&& 31)))) 5 (32 * t + k) b) 6 (32 * t + k) x) (μ 7 t ||| (nI 1 <<< (nI k &&& 31)))) E w q256 q258 qs15 q21 q259 rfl rfl 1 rfl (by decide +kernel) ⟨Nat.le_of_ble_eq_true rfl, Nat.le_of_ble_eq_true rfl⟩ hl.1 rfl (Nat.le_of_ble_eq_true rfl) dX1_give_114 ⟨Nat.zero_le _, Nat.zero_le _⟩ (fun r_114 σ_114 H locs hp_114 w => ?_)
    exact ret _ _ _ _ _ _ (hp_114) w dX1_give_117
  rcases (Bool.eq_false_or_eq_true (bt (μ 7 t) k)) with g | g
  · refine lv_if_ne (tgt := 66) hx hb dX1_give_53 (by decide) (fun _ => ?_) (fun hn => absurd hn (by rw [g]; decide))
    exact rest66
  · have hlt : fb_ct (bt (μ 7 t)) 32 ≤ 32 := fb_ct_le _ _
    refine lv_if_ne (tgt := 66) hx hb dX1_give_53 (by decide) (fun hn => absurd hn (fun z => z (by rw [g]; rfl))) (fun _ => ?_)
    refine lv_iload hx hb dX1_give_56 (lv_at hl 0 rfl) ?_
    refine lv_bipush (v := (nI (6))) hx hb dX1_give_58 (by decide) ?_
    refine lv_icmp_ne (tgt := 66) hx hb dX1_give_60 (by decide) (fun _ => ?_) (fun hn => absurd hn (fun z => (hg.resolve_left (by rw [g]; decide)) (nI_inj (by omega) (by omega) z)))
    exact rest66
set_option maxHeartbeats 4000000 in
set_option maxRecDepth 100000 in
theorem m_write_badt (μ : ST) (t k : Int32) (x : Int32) (hbad : t < 0 ∨ nI 3 < t) : KMi WM tM yX1_write cX1_write 4 (some .int) 3 [.int (t), .int (k), .int (x)] μ (fun r σ' => r = -1 ∧ σ' = μ) := by
  refine KMi.ofI (own := RX1) (by decide +kernel) rfl (fun _ => Nat.le_of_ble_eq_true rfl) ?_
  intro p l e s m args below meth c D h ad d A ls Q E w ret hl
  have hx := E.1
  have hb := E.2.1
  have hl : lv_has ls 4 [(0, .ref h), (1, .int (t)), (2, .int (k)), (3, .int (x))] := hl
  refine lv_aload_n hx hb dX1_write_0 rfl (lv_at hl 0 rfl) ?_
  refine lv_iload_n hx hb dX1_write_1 rfl (lv_at hl 1 rfl) ?_
  refine lv_iload_n hx hb dX1_write_2 rfl (lv_at hl 2 rfl) ?_
  refine lv_iconst (v := (nI (1))) hx hb dX1_write_3 (by decide) ?_
  refine lv_iload_n hx hb dX1_write_4 rfl (lv_at hl 3 rfl) ?_
  refine k_calli (ci := 1) (C := RX1) (T := TX1) (N := 10) (m_give_badt μ t k (nI 1) x hbad) E w q248 q250 qs13 q21 q251 rfl rfl 4 rfl (by decide +kernel) ⟨Nat.le_of_ble_eq_true rfl, Nat.le_of_ble_eq_true rfl⟩ hl.1 rfl (Nat.le_of_ble_eq_true rfl) dX1_write_5 ⟨Nat.zero_le _, Nat.zero_le _⟩ (fun r_5 σ_5 H locs hp_5 w => ?_)
  exact ret _ _ _ _ _ _ (hp_5) w dX1_write_8
set_option maxHeartbeats 4000000 in
set_option maxRecDepth 100000 in
theorem m_write_badk (μ : ST) (t : Nat) (k : Int32) (x : Int32) (ht : t < 4) (hbad : k < 0 ∨ nI 31 < k) : KMi WM tM yX1_write cX1_write 4 (some .int) 3 [.int (nI (t)), .int (k), .int (x)] μ (fun r σ' => r = -1 ∧ σ' = μ) := by
  refine KMi.ofI (own := RX1) (by decide +kernel) rfl (fun _ => Nat.le_of_ble_eq_true rfl) ?_
  intro p l e s m args below meth c D h ad d A ls Q E w ret hl
  have hx := E.1
  have hb := E.2.1
  have hl : lv_has ls 4 [(0, .ref h), (1, .int (nI (t))), (2, .int (k)), (3, .int (x))] := hl
  refine lv_aload_n hx hb dX1_write_0 rfl (lv_at hl 0 rfl) ?_
  refine lv_iload_n hx hb dX1_write_1 rfl (lv_at hl 1 rfl) ?_
  refine lv_iload_n hx hb dX1_write_2 rfl (lv_at hl 2 rfl) ?_
  refine lv_iconst (v := (nI (1))) hx hb dX1_write_3 (by decide) ?_
  refine lv_iload_n hx hb dX1_write_4 rfl (lv_at hl 3 rfl) ?_
  refine k_calli (ci := 1) (C := RX1) (T := TX1) (N := 10) (m_give_badk μ t k (nI 1) x ht hbad) E w q248 q250 qs13 q21 q251 rfl rfl 4 rfl (by decide +kernel) ⟨Nat.le_of_ble_eq_true rfl, Nat.le_of_ble_eq_true rfl⟩ hl.1 rfl (Nat.le_of_ble_eq_true rfl) dX1_write_5 ⟨Nat.zero_le _, Nat.zero_le _⟩ (fun r_5 σ_5 H locs hp_5 w => ?_)
  exact ret _ _ _ _ _ _ (hp_5) w dX1_write_8
set_option maxHeartbeats 4000000 in
set_option maxRecDepth 100000 in
theorem m_write_cl (μ : ST) (t k : Nat) (x : Int32) (ht : t < 4) (hk : k < 32) (ho : μ 4 t = 0) : KMi WM tM yX1_write cX1_write 4 (some .int) 3 [.int (nI (t)), .int (nI (k)), .int (x)] μ (fun r σ' => r = -3 ∧ σ' = μ) := by
  refine KMi.ofI (own := RX1) (by decide +kernel) rfl (fun _ => Nat.le_of_ble_eq_true rfl) ?_
  intro p l e s m args below meth c D h ad d A ls Q E w ret hl
  have hx := E.1
  have hb := E.2.1
  have hl : lv_has ls 4 [(0, .ref h), (1, .int (nI (t))), (2, .int (nI (k))), (3, .int (x))] := hl
  refine lv_aload_n hx hb dX1_write_0 rfl (lv_at hl 0 rfl) ?_
  refine lv_iload_n hx hb dX1_write_1 rfl (lv_at hl 1 rfl) ?_
  refine lv_iload_n hx hb dX1_write_2 rfl (lv_at hl 2 rfl) ?_
  refine lv_iconst (v := (nI (1))) hx hb dX1_write_3 (by decide) ?_
  refine lv_iload_n hx hb dX1_write_4 rfl (lv_at hl 3 rfl) ?_
  refine k_calli (ci := 1) (C := RX1) (T := TX1) (N := 10) (m_give_cl μ t k (nI 1) x ht hk ho) E w q248 q250 qs13 q21 q251 rfl rfl 4 rfl (by decide +kernel) ⟨Nat.le_of_ble_eq_true rfl, Nat.le_of_ble_eq_true rfl⟩ hl.1 rfl (Nat.le_of_ble_eq_true rfl) dX1_write_5 ⟨Nat.zero_le _, Nat.zero_le _⟩ (fun r_5 σ_5 H locs hp_5 w => ?_)
  exact ret _ _ _ _ _ _ (hp_5) w dX1_write_8
set_option maxHeartbeats 4000000 in
set_option maxRecDepth 100000 in
theorem m_write_full (μ : ST) (t k : Nat) (x : Int32) (ht : t < 4) (hk : k < 32) (ho : ¬ μ 4 t = 0) (hb0 : bt (μ 7 t) k = false) (h6 : fb_ct (bt (μ 7 t)) 32 = 6) : KMi WM tM yX1_write cX1_write 4 (some .int) 3 [.int (nI (t)), .int (nI (k)), .int (x)] μ (fun r σ' => r = -4 ∧ σ' = μ) := by
  refine KMi.ofI (own := RX1) (by decide +kernel) rfl (fun _ => Nat.le_of_ble_eq_true rfl) ?_
  intro p l e s m args below meth c D h ad d A ls Q E w ret hl
  have hx := E.1
  have hb := E.2.1
  have hl : lv_has ls 4 [(0, .ref h), (1, .int (nI (t))), (2, .int (nI (k))), (3, .int (x))] := hl
  refine lv_aload_n hx hb dX1_write_0 rfl (lv_at hl 0 rfl) ?_
  refine lv_iload_n hx hb dX1_write_1 rfl (lv_at hl 1 rfl) ?_
  refine lv_iload_n hx hb dX1_write_2 rfl (lv_at hl 2 rfl) ?_
  refine lv_iconst (v := (nI (1))) hx hb dX1_write_3 (by decide) ?_
  refine lv_iload_n hx hb dX1_write_4 rfl (lv_at hl 3 rfl) ?_
  refine k_calli (ci := 1) (C := RX1) (T := TX1) (N := 10) (m_give_full μ t k (nI 1) x ht hk ho hb0 h6) E w q248 q250 qs13 q21 q251 rfl rfl 4 rfl (by decide +kernel) ⟨Nat.le_of_ble_eq_true rfl, Nat.le_of_ble_eq_true rfl⟩ hl.1 rfl (Nat.le_of_ble_eq_true rfl) dX1_write_5 ⟨Nat.zero_le _, Nat.zero_le _⟩ (fun r_5 σ_5 H locs hp_5 w => ?_)
  exact ret _ _ _ _ _ _ (hp_5) w dX1_write_8
set_option maxHeartbeats 4000000 in
set_option maxRecDepth 100000 in
theorem m_write (μ : ST) (t k : Nat) (x : Int32) (ht : t < 4) (hk : k < 32) (ho : ¬ μ 4 t = 0) (hg : bt (μ 7 t) k = true ∨ ¬ fb_ct (bt (μ 7 t)) 32 = 6) : KMi WM tM yX1_write cX1_write 4 (some .int) 3 [.int (nI (t)), .int (nI (k)), .int (x)] μ (fun r σ' => r = nI (fb_ct (bt (μ 7 t ||| (nI 1 <<< (nI k &&& 31)))) 32) ∧ σ' = su (su (su μ 7 (t) (μ 7 t ||| (nI 1 <<< (nI k &&& 31)))) 5 (32 * t + k) (nI 1)) 6 (32 * t + k) x) := by
  refine KMi.ofI (own := RX1) (by decide +kernel) rfl (fun _ => Nat.le_of_ble_eq_true rfl) ?_
  intro p l e s m args below meth c D h ad d A ls Q E w ret hl
  have hx := E.1
  have hb := E.2.1
  have hl : lv_has ls 4 [(0, .ref h), (1, .int (nI (t))), (2, .int (nI (k))), (3, .int (x))] := hl
  refine lv_aload_n hx hb dX1_write_0 rfl (lv_at hl 0 rfl) ?_
  refine lv_iload_n hx hb dX1_write_1 rfl (lv_at hl 1 rfl) ?_
  refine lv_iload_n hx hb dX1_write_2 rfl (lv_at hl 2 rfl) ?_
  refine lv_iconst (v := (nI (1))) hx hb dX1_write_3 (by decide) ?_
  refine lv_iload_n hx hb dX1_write_4 rfl (lv_at hl 3 rfl) ?_
  refine k_calli (ci := 1) (C := RX1) (T := TX1) (N := 10) (m_give μ t k (nI 1) x ht hk ho rfl hg) E w q248 q250 qs13 q21 q251 rfl rfl 4 rfl (by decide +kernel) ⟨Nat.le_of_ble_eq_true rfl, Nat.le_of_ble_eq_true rfl⟩ hl.1 rfl (Nat.le_of_ble_eq_true rfl) dX1_write_5 ⟨Nat.zero_le _, Nat.zero_le _⟩ (fun r_5 σ_5 H locs hp_5 w => ?_)
  exact ret _ _ _ _ _ _ (hp_5) w dX1_write_8
set_option maxHeartbeats 4000000 in
set_option maxRecDepth 100000 in
theorem m_erase_badt (μ : ST) (t k : Int32) (hbad : t < 0 ∨ nI 3 < t) : KMi WM tM yX1_erase cX1_erase 3 (some .int) 3 [.int (t), .int (k)] μ (fun r σ' => r = -1 ∧ σ' = μ) := by
  refine KMi.ofI (own := RX1) (by decide +kernel) rfl (fun _ => Nat.le_of_ble_eq_true rfl) ?_
  intro p l e s m args below meth c D h ad d A ls Q E w ret hl
  have hx := E.1
  have hb := E.2.1
  have hl : lv_has ls 3 [(0, .ref h), (1, .int (t)), (2, .int (k))] := hl
  refine lv_aload_n hx hb dX1_erase_0 rfl (lv_at hl 0 rfl) ?_
  refine lv_iload_n hx hb dX1_erase_1 rfl (lv_at hl 1 rfl) ?_
  refine lv_iload_n hx hb dX1_erase_2 rfl (lv_at hl 2 rfl) ?_
  refine lv_iconst (v := (nI (0))) hx hb dX1_erase_3 (by decide) ?_
  refine lv_iconst (v := (nI (0))) hx hb dX1_erase_4 (by decide) ?_
  refine k_calli (ci := 1) (C := RX1) (T := TX1) (N := 10) (m_give_badt μ t k (nI 0) (nI 0) hbad) E w q248 q250 qs13 q21 q251 rfl rfl 4 rfl (by decide +kernel) ⟨Nat.le_of_ble_eq_true rfl, Nat.le_of_ble_eq_true rfl⟩ hl.1 rfl (Nat.le_of_ble_eq_true rfl) dX1_erase_5 ⟨Nat.zero_le _, Nat.zero_le _⟩ (fun r_5 σ_5 H locs hp_5 w => ?_)
  exact ret _ _ _ _ _ _ (hp_5) w dX1_erase_8
set_option maxHeartbeats 4000000 in
set_option maxRecDepth 100000 in
theorem m_erase_badk (μ : ST) (t : Nat) (k : Int32) (ht : t < 4) (hbad : k < 0 ∨ nI 31 < k) : KMi WM tM yX1_erase cX1_erase 3 (some .int) 3 [.int (nI (t)), .int (k)] μ (fun r σ' => r = -1 ∧ σ' = μ) := by
  refine KMi.ofI (own := RX1) (by decide +kernel) rfl (fun _ => Nat.le_of_ble_eq_true rfl) ?_
  intro p l e s m args below meth c D h ad d A ls Q E w ret hl
  have hx := E.1
  have hb := E.2.1
  have hl : lv_has ls 3 [(0, .ref h), (1, .int (nI (t))), (2, .int (k))] := hl
  refine lv_aload_n hx hb dX1_erase_0 rfl (lv_at hl 0 rfl) ?_
  refine lv_iload_n hx hb dX1_erase_1 rfl (lv_at hl 1 rfl) ?_
  refine lv_iload_n hx hb dX1_erase_2 rfl (lv_at hl 2 rfl) ?_
  refine lv_iconst (v := (nI (0))) hx hb dX1_erase_3 (by decide) ?_
  refine lv_iconst (v := (nI (0))) hx hb dX1_erase_4 (by decide) ?_
  refine k_calli (ci := 1) (C := RX1) (T := TX1) (N := 10) (m_give_badk μ t k (nI 0) (nI 0) ht hbad) E w q248 q250 qs13 q21 q251 rfl rfl 4 rfl (by decide +kernel) ⟨Nat.le_of_ble_eq_true rfl, Nat.le_of_ble_eq_true rfl⟩ hl.1 rfl (Nat.le_of_ble_eq_true rfl) dX1_erase_5 ⟨Nat.zero_le _, Nat.zero_le _⟩ (fun r_5 σ_5 H locs hp_5 w => ?_)
  exact ret _ _ _ _ _ _ (hp_5) w dX1_erase_8
set_option maxHeartbeats 4000000 in
set_option maxRecDepth 100000 in
theorem m_erase_cl (μ : ST) (t k : Nat) (ht : t < 4) (hk : k < 32) (ho : μ 4 t = 0) : KMi WM tM yX1_erase cX1_erase 3 (some .int) 3 [.int (nI (t)), .int (nI (k))] μ (fun r σ' => r = -3 ∧ σ' = μ) := by
  refine KMi.ofI (own := RX1) (by decide +kernel) rfl (fun _ => Nat.le_of_ble_eq_true rfl) ?_
  intro p l e s m args below meth c D h ad d A ls Q E w ret hl
  have hx := E.1
  have hb := E.2.1
  have hl : lv_has ls 3 [(0, .ref h), (1, .int (nI (t))), (2, .int (nI (k)))] := hl
  refine lv_aload_n hx hb dX1_erase_0 rfl (lv_at hl 0 rfl) ?_
  refine lv_iload_n hx hb dX1_erase_1 rfl (lv_at hl 1 rfl) ?_
  refine lv_iload_n hx hb dX1_erase_2 rfl (lv_at hl 2 rfl) ?_
  refine lv_iconst (v := (nI (0))) hx hb dX1_erase_3 (by decide) ?_
  refine lv_iconst (v := (nI (0))) hx hb dX1_erase_4 (by decide) ?_
  refine k_calli (ci := 1) (C := RX1) (T := TX1) (N := 10) (m_give_cl μ t k (nI 0) (nI 0) ht hk ho) E w q248 q250 qs13 q21 q251 rfl rfl 4 rfl (by decide +kernel) ⟨Nat.le_of_ble_eq_true rfl, Nat.le_of_ble_eq_true rfl⟩ hl.1 rfl (Nat.le_of_ble_eq_true rfl) dX1_erase_5 ⟨Nat.zero_le _, Nat.zero_le _⟩ (fun r_5 σ_5 H locs hp_5 w => ?_)
  exact ret _ _ _ _ _ _ (hp_5) w dX1_erase_8
set_option maxHeartbeats 4000000 in
set_option maxRecDepth 100000 in
theorem m_erase_full (μ : ST) (t k : Nat) (ht : t < 4) (hk : k < 32) (ho : ¬ μ 4 t = 0) (hb0 : bt (μ 7 t) k = false) (h6 : fb_ct (bt (μ 7 t)) 32 = 6) : KMi WM tM yX1_erase cX1_erase 3 (some .int) 3 [.int (nI (t)), .int (nI (k))] μ (fun r σ' => r = -4 ∧ σ' = μ) := by
  refine KMi.ofI (own := RX1) (by decide +kernel) rfl (fun _ => Nat.le_of_ble_eq_true rfl) ?_
  intro p l e s m args below meth c D h ad d A ls Q E w ret hl
  have hx := E.1
  have hb := E.2.1
  have hl : lv_has ls 3 [(0, .ref h), (1, .int (nI (t))), (2, .int (nI (k)))] := hl
  refine lv_aload_n hx hb dX1_erase_0 rfl (lv_at hl 0 rfl) ?_
  refine lv_iload_n hx hb dX1_erase_1 rfl (lv_at hl 1 rfl) ?_
  refine lv_iload_n hx hb dX1_erase_2 rfl (lv_at hl 2 rfl) ?_
  refine lv_iconst (v := (nI (0))) hx hb dX1_erase_3 (by decide) ?_
  refine lv_iconst (v := (nI (0))) hx hb dX1_erase_4 (by decide) ?_
  refine k_calli (ci := 1) (C := RX1) (T := TX1) (N := 10) (m_give_full μ t k (nI 0) (nI 0) ht hk ho hb0 h6) E w q248 q250 qs13 q21 q251 rfl rfl 4 rfl (by decide +kernel) ⟨Nat.le_of_ble_eq_true rfl, Nat.le_of_ble_eq_true rfl⟩ hl.1 rfl (Nat.le_of_ble_eq_true rfl) dX1_erase_5 ⟨Nat.zero_le _, Nat.zero_le _⟩ (fun r_5 σ_5 H locs hp_5 w => ?_)
  exact ret _ _ _ _ _ _ (hp_5) w dX1_erase_8
set_option maxHeartbeats 4000000 in
set_option maxRecDepth 100000 in
theorem m_erase (μ : ST) (t k : Nat) (ht : t < 4) (hk : k < 32) (ho : ¬ μ 4 t = 0) (hg : bt (μ 7 t) k = true ∨ ¬ fb_ct (bt (μ 7 t)) 32 = 6) : KMi WM tM yX1_erase cX1_erase 3 (some .int) 3 [.int (nI (t)), .int (nI (k))] μ (fun r σ' => r = nI (fb_ct (bt (μ 7 t ||| (nI 1 <<< (nI k &&& 31)))) 32) ∧ σ' = su (su (su μ 7 (t) (μ 7 t ||| (nI 1 <<< (nI k &&& 31)))) 5 (32 * t + k) (nI 0)) 6 (32 * t + k) (nI 0)) := by
  refine KMi.ofI (own := RX1) (by decide +kernel) rfl (fun _ => Nat.le_of_ble_eq_true rfl) ?_
  intro p l e s m args below meth c D h ad d A ls Q E w ret hl
  have hx := E.1
  have hb := E.2.1
  have hl : lv_has ls 3 [(0, .ref h), (1, .int (nI (t))), (2, .int (nI (k)))] := hl
  refine lv_aload_n hx hb dX1_erase_0 rfl (lv_at hl 0 rfl) ?_
  refine lv_iload_n hx hb dX1_erase_1 rfl (lv_at hl 1 rfl) ?_
  refine lv_iload_n hx hb dX1_erase_2 rfl (lv_at hl 2 rfl) ?_
  refine lv_iconst (v := (nI (0))) hx hb dX1_erase_3 (by decide) ?_
  refine lv_iconst (v := (nI (0))) hx hb dX1_erase_4 (by decide) ?_
  refine k_calli (ci := 1) (C := RX1) (T := TX1) (N := 10) (m_give μ t k (nI 0) (nI 0) ht hk ho rfl hg) E w q248 q250 qs13 q21 q251 rfl rfl 4 rfl (by decide +kernel) ⟨Nat.le_of_ble_eq_true rfl, Nat.le_of_ble_eq_true rfl⟩ hl.1 rfl (Nat.le_of_ble_eq_true rfl) dX1_erase_5 ⟨Nat.zero_le _, Nat.zero_le _⟩ (fun r_5 σ_5 H locs hp_5 w => ?_)
  exact ret _ _ _ _ _ _ (hp_5) w dX1_erase_8
end
section
set_option maxRecDepth 100000
set_option maxHeartbeats 4000000 in
set_option maxRecDepth 100000 in
theorem m_read_badt (μ : ST) (t k : Int32) (hbad : t < 0 ∨ nI 3 < t) : KMi WM tM yX1_read cX1_read 3 (some .int) 1 [.int (t), .int (k)] μ (fun r σ' => r = -1 ∧ σ' = μ) := by
  refine KMi.ofI (own := RX1) (by decide +kernel) rfl (fun _ => Nat.le_of_ble_eq_true rfl) ?_
  intro p l e s m args below meth c D h ad d A ls Q E w ret hl
  have hx := E.1
  have hb := E.2.1
  have hl : lv_has ls 3 [(0, .ref h), (1, .int (t)), (2, .int (k))] := hl
  refine lv_aload_n hx hb dX1_read_0 rfl (lv_at hl 0 rfl) ?_
  refine lv_iload_n hx hb dX1_read_1 rfl (lv_at hl 1 rfl) ?_
  refine k_calli (ci := 1) (C := RX1) (T := TX1) (N := 10) (m_isT_n μ t (hbad)) E w q240 q242 qs12 q21 q243 rfl rfl 1 rfl (by decide +kernel) ⟨Nat.le_of_ble_eq_true rfl, Nat.le_of_ble_eq_true rfl⟩ hl.1 rfl (Nat.le_of_ble_eq_true rfl) dX1_read_2 ⟨Nat.zero_le _, Nat.zero_le _⟩ (fun r_2 σ_2 H locs hp_2 w => ?_)
  obtain ⟨e1, e2⟩ := hp_2
  rw [e2] at w
  refine g_eq (y := (nI (0))) (e1) ?_
  refine lv_if_eq (tgt := 16) hx hb dX1_read_5 (by decide) (fun _ => ?_) (fun hn => absurd (nI_0) hn)
  refine lv_iconst (v := (-1)) hx hb dX1_read_16 (by decide) ?_
  exact ret _ _ _ _ _ _ (⟨rfl, rfl⟩) w dX1_read_17
set_option maxHeartbeats 4000000 in
set_option maxRecDepth 100000 in
theorem m_read_badk (μ : ST) (t : Nat) (k : Int32) (ht : t < 4) (hbad : k < 0 ∨ nI 31 < k) : KMi WM tM yX1_read cX1_read 3 (some .int) 1 [.int (nI (t)), .int (k)] μ (fun r σ' => r = -1 ∧ σ' = μ) := by
  refine KMi.ofI (own := RX1) (by decide +kernel) rfl (fun _ => Nat.le_of_ble_eq_true rfl) ?_
  intro p l e s m args below meth c D h ad d A ls Q E w ret hl
  have hx := E.1
  have hb := E.2.1
  have hl : lv_has ls 3 [(0, .ref h), (1, .int (nI (t))), (2, .int (k))] := hl
  refine lv_aload_n hx hb dX1_read_0 rfl (lv_at hl 0 rfl) ?_
  refine lv_iload_n hx hb dX1_read_1 rfl (lv_at hl 1 rfl) ?_
  refine k_calli (ci := 1) (C := RX1) (T := TX1) (N := 10) (m_isT_y μ t ht) E w q240 q242 qs12 q21 q243 rfl rfl 1 rfl (by decide +kernel) ⟨Nat.le_of_ble_eq_true rfl, Nat.le_of_ble_eq_true rfl⟩ hl.1 rfl (Nat.le_of_ble_eq_true rfl) dX1_read_2 ⟨Nat.zero_le _, Nat.zero_le _⟩ (fun r_2 σ_2 H locs hp_2 w => ?_)
  obtain ⟨e1, e2⟩ := hp_2
  rw [e2] at w
  refine g_eq (y := (nI (1))) (e1) ?_
  refine lv_if_eq (tgt := 16) hx hb dX1_read_5 (by decide) (fun hn => absurd hn (by decide)) (fun _ => ?_)
  refine lv_aload_n hx hb dX1_read_8 rfl (lv_at hl 0 rfl) ?_
  refine lv_iload_n hx hb dX1_read_9 rfl (lv_at hl 2 rfl) ?_
  refine k_calli (ci := 1) (C := RX1) (T := TX1) (N := 10) (m_isK_n μ k (hbad)) E w q252 q254 qs14 q21 q255 rfl rfl 1 rfl (by decide +kernel) ⟨Nat.le_of_ble_eq_true rfl, Nat.le_of_ble_eq_true rfl⟩ hl.1 rfl (Nat.le_of_ble_eq_true rfl) dX1_read_10 ⟨Nat.zero_le _, Nat.zero_le _⟩ (fun r_10 σ_10 H locs hp_10 w => ?_)
  obtain ⟨e1, e2⟩ := hp_10
  rw [e2] at w
  refine g_eq (y := (nI (0))) (e1) ?_
  refine lv_if_ne (tgt := 18) hx hb dX1_read_13 (by decide) (fun hn => absurd hn (fun z => z nI_0)) (fun _ => ?_)
  refine lv_iconst (v := (-1)) hx hb dX1_read_16 (by decide) ?_
  exact ret _ _ _ _ _ _ (⟨rfl, rfl⟩) w dX1_read_17
set_option maxHeartbeats 4000000 in
set_option maxRecDepth 100000 in
theorem m_peek_badt (μ : ST) (t k : Int32) (hbad : t < 0 ∨ nI 3 < t) : KMi WM tM yX1_peek cX1_peek 3 (some .int) 1 [.int (t), .int (k)] μ (fun r σ' => r = nI 0 ∧ σ' = μ) := by
  refine KMi.ofI (own := RX1) (by decide +kernel) rfl (fun _ => Nat.le_of_ble_eq_true rfl) ?_
  intro p l e s m args below meth c D h ad d A ls Q E w ret hl
  have hx := E.1
  have hb := E.2.1
  have hl : lv_has ls 3 [(0, .ref h), (1, .int (t)), (2, .int (k))] := hl
  refine lv_aload_n hx hb dX1_peek_0 rfl (lv_at hl 0 rfl) ?_
  refine lv_iload_n hx hb dX1_peek_1 rfl (lv_at hl 1 rfl) ?_
  refine k_calli (ci := 1) (C := RX1) (T := TX1) (N := 10) (m_isT_n μ t (hbad)) E w q240 q242 qs12 q21 q243 rfl rfl 1 rfl (by decide +kernel) ⟨Nat.le_of_ble_eq_true rfl, Nat.le_of_ble_eq_true rfl⟩ hl.1 rfl (Nat.le_of_ble_eq_true rfl) dX1_peek_2 ⟨Nat.zero_le _, Nat.zero_le _⟩ (fun r_2 σ_2 H locs hp_2 w => ?_)
  obtain ⟨e1, e2⟩ := hp_2
  rw [e2] at w
  refine g_eq (y := (nI (0))) (e1) ?_
  refine lv_if_eq (tgt := 25) hx hb dX1_peek_5 (by decide) (fun _ => ?_) (fun hn => absurd (nI_0) hn)
  refine lv_iconst (v := (nI (0))) hx hb dX1_peek_25 (by decide) ?_
  exact ret _ _ _ _ _ _ (⟨rfl, rfl⟩) w dX1_peek_26
set_option maxHeartbeats 4000000 in
set_option maxRecDepth 100000 in
theorem m_peek_badk (μ : ST) (t : Nat) (k : Int32) (ht : t < 4) (hbad : k < 0 ∨ nI 31 < k) : KMi WM tM yX1_peek cX1_peek 3 (some .int) 1 [.int (nI (t)), .int (k)] μ (fun r σ' => r = nI 0 ∧ σ' = μ) := by
  refine KMi.ofI (own := RX1) (by decide +kernel) rfl (fun _ => Nat.le_of_ble_eq_true rfl) ?_
  intro p l e s m args below meth c D h ad d A ls Q E w ret hl
  have hx := E.1
  have hb := E.2.1
  have hl : lv_has ls 3 [(0, .ref h), (1, .int (nI (t))), (2, .int (k))] := hl
  refine lv_aload_n hx hb dX1_peek_0 rfl (lv_at hl 0 rfl) ?_
  refine lv_iload_n hx hb dX1_peek_1 rfl (lv_at hl 1 rfl) ?_
  refine k_calli (ci := 1) (C := RX1) (T := TX1) (N := 10) (m_isT_y μ t ht) E w q240 q242 qs12 q21 q243 rfl rfl 1 rfl (by decide +kernel) ⟨Nat.le_of_ble_eq_true rfl, Nat.le_of_ble_eq_true rfl⟩ hl.1 rfl (Nat.le_of_ble_eq_true rfl) dX1_peek_2 ⟨Nat.zero_le _, Nat.zero_le _⟩ (fun r_2 σ_2 H locs hp_2 w => ?_)
  obtain ⟨e1, e2⟩ := hp_2
  rw [e2] at w
  refine g_eq (y := (nI (1))) (e1) ?_
  refine lv_if_eq (tgt := 25) hx hb dX1_peek_5 (by decide) (fun hn => absurd hn (by decide)) (fun _ => ?_)
  refine lv_aload_n hx hb dX1_peek_8 rfl (lv_at hl 0 rfl) ?_
  refine lv_iload_n hx hb dX1_peek_9 rfl (lv_at hl 2 rfl) ?_
  refine k_calli (ci := 1) (C := RX1) (T := TX1) (N := 10) (m_isK_n μ k (hbad)) E w q252 q254 qs14 q21 q255 rfl rfl 1 rfl (by decide +kernel) ⟨Nat.le_of_ble_eq_true rfl, Nat.le_of_ble_eq_true rfl⟩ hl.1 rfl (Nat.le_of_ble_eq_true rfl) dX1_peek_10 ⟨Nat.zero_le _, Nat.zero_le _⟩ (fun r_10 σ_10 H locs hp_10 w => ?_)
  obtain ⟨e1, e2⟩ := hp_10
  rw [e2] at w
  refine g_eq (y := (nI (0))) (e1) ?_
  refine lv_if_eq (tgt := 25) hx hb dX1_peek_13 (by decide) (fun _ => ?_) (fun hn => absurd (nI_0) hn)
  refine lv_iconst (v := (nI (0))) hx hb dX1_peek_25 (by decide) ?_
  exact ret _ _ _ _ _ _ (⟨rfl, rfl⟩) w dX1_peek_26
set_option maxHeartbeats 4000000 in
set_option maxRecDepth 100000 in
theorem m_read_cl (μ : ST) (t k : Nat) (ht : t < 4) (hk : k < 32) (ho : μ 4 t = 0) : KMi WM tM yX1_read cX1_read 3 (some .int) 1 [.int (nI (t)), .int (nI (k))] μ (fun r σ' => r = -3 ∧ σ' = μ) := by
  refine KMi.ofI (own := RX1) (by decide +kernel) rfl (fun _ => Nat.le_of_ble_eq_true rfl) ?_
  intro p l e s m args below meth c D h ad d A ls Q E w ret hl
  have hx := E.1
  have hb := E.2.1
  have hl : lv_has ls 3 [(0, .ref h), (1, .int (nI (t))), (2, .int (nI (k)))] := hl
  refine lv_aload_n hx hb dX1_read_0 rfl (lv_at hl 0 rfl) ?_
  refine lv_iload_n hx hb dX1_read_1 rfl (lv_at hl 1 rfl) ?_
  refine k_calli (ci := 1) (C := RX1) (T := TX1) (N := 10) (m_isT_y μ t ht) E w q240 q242 qs12 q21 q243 rfl rfl 1 rfl (by decide +kernel) ⟨Nat.le_of_ble_eq_true rfl, Nat.le_of_ble_eq_true rfl⟩ hl.1 rfl (Nat.le_of_ble_eq_true rfl) dX1_read_2 ⟨Nat.zero_le _, Nat.zero_le _⟩ (fun r_2 σ_2 H locs hp_2 w => ?_)
  obtain ⟨e1, e2⟩ := hp_2
  rw [e2] at w
  refine g_eq (y := (nI (1))) (e1) ?_
  refine lv_if_eq (tgt := 16) hx hb dX1_read_5 (by decide) (fun hn => absurd hn (by decide)) (fun _ => ?_)
  refine lv_aload_n hx hb dX1_read_8 rfl (lv_at hl 0 rfl) ?_
  refine lv_iload_n hx hb dX1_read_9 rfl (lv_at hl 2 rfl) ?_
  refine k_calli (ci := 1) (C := RX1) (T := TX1) (N := 10) (m_isK_y μ k hk) E w q252 q254 qs14 q21 q255 rfl rfl 1 rfl (by decide +kernel) ⟨Nat.le_of_ble_eq_true rfl, Nat.le_of_ble_eq_true rfl⟩ hl.1 rfl (Nat.le_of_ble_eq_true rfl) dX1_read_10 ⟨Nat.zero_le _, Nat.zero_le _⟩ (fun r_10 σ_10 H locs hp_10 w => ?_)
  obtain ⟨e1, e2⟩ := hp_10
  rw [e2] at w
  refine g_eq (y := (nI (1))) (e1) ?_
  refine lv_if_ne (tgt := 18) hx hb dX1_read_13 (by decide) (fun _ => ?_) (fun hn => absurd hn (by decide))
  refine lv_aload_n hx hb dX1_read_18 rfl (lv_at hl 0 rfl) ?_
  refine m_get (v := .ref (ad 4)) E w 4 (by decide) q209 rfl dX1_read_19 ?_
  refine lv_iload_n hx hb dX1_read_22 rfl (lv_at hl 1 rfl) ?_
  refine g_zald (f := μ 4) E w 4 3 rfl rfl (by omega) (by decide) dX1_read_23 ?_
  refine lv_if_ne (tgt := 30) hx hb dX1_read_24 (by decide) (fun hn => absurd hn (fun z => z ho)) (fun _ => ?_)
  refine lv_bipush (v := (-3)) hx hb dX1_read_27 (by decide) ?_
  exact ret _ _ _ _ _ _ (⟨rfl, rfl⟩) w dX1_read_29
set_option maxHeartbeats 4000000 in
set_option maxRecDepth 100000 in
theorem m_read (μ : ST) (t k : Nat) (b : Bool) (ht : t < 4) (hk : k < 32) (ho : ¬ μ 4 t = 0) (hb5 : μ 5 (32 * t + k) = bI b) : KMi WM tM yX1_read cX1_read 3 (some .int) 1 [.int (nI (t)), .int (nI (k))] μ (fun r σ' => r = bI b ∧ σ' = su μ 8 t (μ 8 t ||| (nI 1 <<< (nI k &&& 31)))) := by
  refine KMi.ofI (own := RX1) (by decide +kernel) rfl (fun _ => Nat.le_of_ble_eq_true rfl) ?_
  intro p l e s m args below meth c D h ad d A ls Q E w ret hl
  have hx := E.1
  have hb := E.2.1
  have hl : lv_has ls 3 [(0, .ref h), (1, .int (nI (t))), (2, .int (nI (k)))] := hl
  refine lv_aload_n hx hb dX1_read_0 rfl (lv_at hl 0 rfl) ?_
  refine lv_iload_n hx hb dX1_read_1 rfl (lv_at hl 1 rfl) ?_
  refine k_calli (ci := 1) (C := RX1) (T := TX1) (N := 10) (m_isT_y μ t ht) E w q240 q242 qs12 q21 q243 rfl rfl 1 rfl (by decide +kernel) ⟨Nat.le_of_ble_eq_true rfl, Nat.le_of_ble_eq_true rfl⟩ hl.1 rfl (Nat.le_of_ble_eq_true rfl) dX1_read_2 ⟨Nat.zero_le _, Nat.zero_le _⟩ (fun r_2 σ_2 H locs hp_2 w => ?_)
  obtain ⟨e1, e2⟩ := hp_2
  rw [e2] at w
  refine g_eq (y := (nI (1))) (e1) ?_
  refine lv_if_eq (tgt := 16) hx hb dX1_read_5 (by decide) (fun hn => absurd hn (by decide)) (fun _ => ?_)
  refine lv_aload_n hx hb dX1_read_8 rfl (lv_at hl 0 rfl) ?_
  refine lv_iload_n hx hb dX1_read_9 rfl (lv_at hl 2 rfl) ?_
  refine k_calli (ci := 1) (C := RX1) (T := TX1) (N := 10) (m_isK_y μ k hk) E w q252 q254 qs14 q21 q255 rfl rfl 1 rfl (by decide +kernel) ⟨Nat.le_of_ble_eq_true rfl, Nat.le_of_ble_eq_true rfl⟩ hl.1 rfl (Nat.le_of_ble_eq_true rfl) dX1_read_10 ⟨Nat.zero_le _, Nat.zero_le _⟩ (fun r_10 σ_10 H locs hp_10 w => ?_)
  obtain ⟨e1, e2⟩ := hp_10
  rw [e2] at w
  refine g_eq (y := (nI (1))) (e1) ?_
  refine lv_if_ne (tgt := 18) hx hb dX1_read_13 (by decide) (fun _ => ?_) (fun hn => absurd hn (by decide))
  refine lv_aload_n hx hb dX1_read_18 rfl (lv_at hl 0 rfl) ?_
  refine m_get (v := .ref (ad 4)) E w 4 (by decide) q209 rfl dX1_read_19 ?_
  refine lv_iload_n hx hb dX1_read_22 rfl (lv_at hl 1 rfl) ?_
  refine g_zald (f := μ 4) E w 4 3 rfl rfl (by omega) (by decide) dX1_read_23 ?_
  refine lv_if_ne (tgt := 30) hx hb dX1_read_24 (by decide) (fun _ => ?_) (fun hn => absurd hn (ho))
  refine lv_aload_n hx hb dX1_read_30 rfl (lv_at hl 0 rfl) ?_
  refine m_get (v := .ref (ad 8)) E w 8 (by decide) q213 rfl dX1_read_31 ?_
  refine lv_iload_n hx hb dX1_read_34 rfl (lv_at hl 1 rfl) ?_
  refine lv_aload_n hx hb dX1_read_35 rfl (lv_at hl 0 rfl) ?_
  refine m_get (v := .ref (ad 8)) E w 8 (by decide) q213 rfl dX1_read_36 ?_
  refine lv_iload_n hx hb dX1_read_39 rfl (lv_at hl 1 rfl) ?_
  refine g_iald (f := μ 8) E w 8 7 rfl rfl (by omega) (by decide) dX1_read_40 ?_
  refine lv_iconst (v := (nI (1))) hx hb dX1_read_41 (by decide) ?_
  refine lv_iload_n hx hb dX1_read_42 rfl (lv_at hl 2 rfl) ?_
  refine lv_ishl hx hb dX1_read_43 ?_
  refine lv_ior hx hb dX1_read_44 ?_
  refine g_iast (f := μ 8) (ws' := WM h ad d (su μ 8 (t) (μ 8 t ||| (nI 1 <<< (nI k &&& 31))))) E w 8 7 rfl rfl (by omega) (by decide) rfl dX1_read_45 (fun H locs w => ?_)
  refine lv_aload_n hx hb dX1_read_46 rfl (lv_at hl 0 rfl) ?_
  refine m_get (v := .ref (ad 5)) E w 5 (by decide) q210 rfl dX1_read_47 ?_
  refine lv_bipush (v := (nI (32))) hx hb dX1_read_50 (by decide) ?_
  refine lv_iload_n hx hb dX1_read_52 rfl (lv_at hl 1 rfl) ?_
  refine n_imul hx hb dX1_read_53 ?_
  refine lv_iload_n hx hb dX1_read_54 rfl (lv_at hl 2 rfl) ?_
  refine n_iadd hx hb dX1_read_55 ?_
  refine g_zald (f := μ 5) E w 5 4 rfl rfl (by omega) (by decide) dX1_read_56 ?_
  refine g_eq (y := (bI b)) (hb5) ?_
  refine lv_if_eq (tgt := 64) hx hb dX1_read_57 (by decide) (fun c1 => ?_) (fun c1 => ?_)
  · refine lv_iconst (v := (nI (0))) hx hb dX1_read_64 (by decide) ?_
    exact ret _ _ _ _ _ _ (⟨by rw [bI_eq0.mp c1]; rfl, rfl⟩) w dX1_read_65
  · refine lv_iconst (v := (nI (1))) hx hb dX1_read_60 (by decide) ?_
    refine lv_goto (tgt := 65) hx hb dX1_read_61 (by decide) ?_
    exact ret _ _ _ _ _ _ (⟨by rw [bI_ne0 c1]; rfl, rfl⟩) w dX1_read_65
set_option maxHeartbeats 4000000 in
set_option maxRecDepth 100000 in
theorem m_peek_cl (μ : ST) (t k : Nat) (ht : t < 4) (hk : k < 32) (ho : μ 4 t = 0) : KMi WM tM yX1_peek cX1_peek 3 (some .int) 1 [.int (nI (t)), .int (nI (k))] μ (fun r σ' => r = nI 0 ∧ σ' = μ) := by
  refine KMi.ofI (own := RX1) (by decide +kernel) rfl (fun _ => Nat.le_of_ble_eq_true rfl) ?_
  intro p l e s m args below meth c D h ad d A ls Q E w ret hl
  have hx := E.1
  have hb := E.2.1
  have hl : lv_has ls 3 [(0, .ref h), (1, .int (nI (t))), (2, .int (nI (k)))] := hl
  refine lv_aload_n hx hb dX1_peek_0 rfl (lv_at hl 0 rfl) ?_
  refine lv_iload_n hx hb dX1_peek_1 rfl (lv_at hl 1 rfl) ?_
  refine k_calli (ci := 1) (C := RX1) (T := TX1) (N := 10) (m_isT_y μ t ht) E w q240 q242 qs12 q21 q243 rfl rfl 1 rfl (by decide +kernel) ⟨Nat.le_of_ble_eq_true rfl, Nat.le_of_ble_eq_true rfl⟩ hl.1 rfl (Nat.le_of_ble_eq_true rfl) dX1_peek_2 ⟨Nat.zero_le _, Nat.zero_le _⟩ (fun r_2 σ_2 H locs hp_2 w => ?_)
  obtain ⟨e1, e2⟩ := hp_2
  rw [e2] at w
  refine g_eq (y := (nI (1))) (e1) ?_
  refine lv_if_eq (tgt := 25) hx hb dX1_peek_5 (by decide) (fun hn => absurd hn (by decide)) (fun _ => ?_)
  refine lv_aload_n hx hb dX1_peek_8 rfl (lv_at hl 0 rfl) ?_
  refine lv_iload_n hx hb dX1_peek_9 rfl (lv_at hl 2 rfl) ?_
  refine k_calli (ci := 1) (C := RX1) (T := TX1) (N := 10) (m_isK_y μ k hk) E w q252 q254 qs14 q21 q255 rfl rfl 1 rfl (by decide +kernel) ⟨Nat.le_of_ble_eq_true rfl, Nat.le_of_ble_eq_true rfl⟩ hl.1 rfl (Nat.le_of_ble_eq_true rfl) dX1_peek_10 ⟨Nat.zero_le _, Nat.zero_le _⟩ (fun r_10 σ_10 H locs hp_10 w => ?_)
  obtain ⟨e1, e2⟩ := hp_10
  rw [e2] at w
  refine g_eq (y := (nI (1))) (e1) ?_
  refine lv_if_eq (tgt := 25) hx hb dX1_peek_13 (by decide) (fun hn => absurd hn (by decide)) (fun _ => ?_)
  refine lv_aload_n hx hb dX1_peek_16 rfl (lv_at hl 0 rfl) ?_
  refine m_get (v := .ref (ad 4)) E w 4 (by decide) q209 rfl dX1_peek_17 ?_
  refine lv_iload_n hx hb dX1_peek_20 rfl (lv_at hl 1 rfl) ?_
  refine g_zald (f := μ 4) E w 4 3 rfl rfl (by omega) (by decide) dX1_peek_21 ?_
  refine lv_if_ne (tgt := 27) hx hb dX1_peek_22 (by decide) (fun hn => absurd hn (fun z => z ho)) (fun _ => ?_)
  refine lv_iconst (v := (nI (0))) hx hb dX1_peek_25 (by decide) ?_
  exact ret _ _ _ _ _ _ (⟨rfl, rfl⟩) w dX1_peek_26
set_option maxHeartbeats 4000000 in
set_option maxRecDepth 100000 in
theorem m_peek (μ : ST) (t k : Nat) (b : Bool) (ht : t < 4) (hk : k < 32) (ho : ¬ μ 4 t = 0) (hb5 : μ 5 (32 * t + k) = bI b) : KMi WM tM yX1_peek cX1_peek 3 (some .int) 1 [.int (nI (t)), .int (nI (k))] μ (fun r σ' => r = (if b then μ 6 (32 * t + k) else 0) ∧ σ' = μ) := by
  refine KMi.ofI (own := RX1) (by decide +kernel) rfl (fun _ => Nat.le_of_ble_eq_true rfl) ?_
  intro p l e s m args below meth c D h ad d A ls Q E w ret hl
  have hx := E.1
  have hb := E.2.1
  have hl : lv_has ls 3 [(0, .ref h), (1, .int (nI (t))), (2, .int (nI (k)))] := hl
  refine lv_aload_n hx hb dX1_peek_0 rfl (lv_at hl 0 rfl) ?_
  refine lv_iload_n hx hb dX1_peek_1 rfl (lv_at hl 1 rfl) ?_
  refine k_calli (ci := 1) (C := RX1) (T := TX1) (N := 10) (m_isT_y μ t ht) E w q240 q242 qs12 q21 q243 rfl rfl 1 rfl (by decide +kernel) ⟨Nat.le_of_ble_eq_true rfl, Nat.le_of_ble_eq_true rfl⟩ hl.1 rfl (Nat.le_of_ble_eq_true rfl) dX1_peek_2 ⟨Nat.zero_le _, Nat.zero_le _⟩ (fun r_2 σ_2 H locs hp_2 w => ?_)
  obtain ⟨e1, e2⟩ := hp_2
  rw [e2] at w
  refine g_eq (y := (nI (1))) (e1) ?_
  refine lv_if_eq (tgt := 25) hx hb dX1_peek_5 (by decide) (fun hn => absurd hn (by decide)) (fun _ => ?_)
  refine lv_aload_n hx hb dX1_peek_8 rfl (lv_at hl 0 rfl) ?_
  refine lv_iload_n hx hb dX1_peek_9 rfl (lv_at hl 2 rfl) ?_
  refine k_calli (ci := 1) (C := RX1) (T := TX1) (N := 10) (m_isK_y μ k hk) E w q252 q254 qs14 q21 q255 rfl rfl 1 rfl (by decide +kernel) ⟨Nat.le_of_ble_eq_true rfl, Nat.le_of_ble_eq_true rfl⟩ hl.1 rfl (Nat.le_of_ble_eq_true rfl) dX1_peek_10 ⟨Nat.zero_le _, Nat.zero_le _⟩ (fun r_10 σ_10 H locs hp_10 w => ?_)
  obtain ⟨e1, e2⟩ := hp_10
  rw [e2] at w
  refine g_eq (y := (nI (1))) (e1) ?_
  refine lv_if_eq (tgt := 25) hx hb dX1_peek_13 (by decide) (fun hn => absurd hn (by decide)) (fun _ => ?_)
  refine lv_aload_n hx hb dX1_peek_16 rfl (lv_at hl 0 rfl) ?_
  refine m_get (v := .ref (ad 4)) E w 4 (by decide) q209 rfl dX1_peek_17 ?_
  refine lv_iload_n hx hb dX1_peek_20 rfl (lv_at hl 1 rfl) ?_
  refine g_zald (f := μ 4) E w 4 3 rfl rfl (by omega) (by decide) dX1_peek_21 ?_
  refine lv_if_ne (tgt := 27) hx hb dX1_peek_22 (by decide) (fun _ => ?_) (fun hn => absurd hn (ho))
  refine lv_aload_n hx hb dX1_peek_27 rfl (lv_at hl 0 rfl) ?_
  refine m_get (v := .ref (ad 5)) E w 5 (by decide) q210 rfl dX1_peek_28 ?_
  refine lv_bipush (v := (nI (32))) hx hb dX1_peek_31 (by decide) ?_
  refine lv_iload_n hx hb dX1_peek_33 rfl (lv_at hl 1 rfl) ?_
  refine n_imul hx hb dX1_peek_34 ?_
  refine lv_iload_n hx hb dX1_peek_35 rfl (lv_at hl 2 rfl) ?_
  refine n_iadd hx hb dX1_peek_36 ?_
  refine g_zald (f := μ 5) E w 5 4 rfl rfl (by omega) (by decide) dX1_peek_37 ?_
  refine g_eq (y := (bI b)) (hb5) ?_
  refine lv_if_eq (tgt := 55) hx hb dX1_peek_38 (by decide) (fun c1 => ?_) (fun c1 => ?_)
  · refine lv_iconst (v := (nI (0))) hx hb dX1_peek_55 (by decide) ?_
    exact ret _ _ _ _ _ _ (⟨by rw [bI_eq0.mp c1]; rfl, rfl⟩) w dX1_peek_56
  · refine lv_aload_n hx hb dX1_peek_41 rfl (lv_at hl 0 rfl) ?_
    refine m_get (v := .ref (ad 6)) E w 6 (by decide) q211 rfl dX1_peek_42 ?_
    refine lv_bipush (v := (nI (32))) hx hb dX1_peek_45 (by decide) ?_
    refine lv_iload_n hx hb dX1_peek_47 rfl (lv_at hl 1 rfl) ?_
    refine n_imul hx hb dX1_peek_48 ?_
    refine lv_iload_n hx hb dX1_peek_49 rfl (lv_at hl 2 rfl) ?_
    refine n_iadd hx hb dX1_peek_50 ?_
    refine g_iald (f := μ 6) E w 6 5 rfl rfl (by omega) (by decide) dX1_peek_51 ?_
    refine lv_goto (tgt := 56) hx hb dX1_peek_52 (by decide) ?_
    exact ret _ _ _ _ _ _ (⟨by rw [bI_ne0 c1]; rfl, rfl⟩) w dX1_peek_56
set_option maxHeartbeats 4000000 in
set_option maxRecDepth 100000 in
theorem m_countRange_badt (μ : ST) (t a b : Int32) (hbad : t < 0 ∨ nI 3 < t) : KMi WM tM yX1_countRange cX1_countRange 6 (some .int) 2 [.int (t), .int (a), .int (b)] μ (fun r σ' => r = -1 ∧ σ' = μ) := by
  refine KMi.ofI (own := RX1) (by decide +kernel) rfl (fun _ => Nat.le_of_ble_eq_true rfl) ?_
  intro p l e s m args below meth c D h ad d A ls Q E w ret hl
  have hx := E.1
  have hb := E.2.1
  have hl : lv_has ls 6 [(0, .ref h), (1, .int (t)), (2, .int (a)), (3, .int (b))] := hl
  refine lv_aload_n hx hb dX1_countRange_0 rfl (lv_at hl 0 rfl) ?_
  refine lv_iload_n hx hb dX1_countRange_1 rfl (lv_at hl 1 rfl) ?_
  refine k_calli (ci := 1) (C := RX1) (T := TX1) (N := 10) (m_isT_n μ t (hbad)) E w q240 q242 qs12 q21 q243 rfl rfl 1 rfl (by decide +kernel) ⟨Nat.le_of_ble_eq_true rfl, Nat.le_of_ble_eq_true rfl⟩ hl.1 rfl (Nat.le_of_ble_eq_true rfl) dX1_countRange_2 ⟨Nat.zero_le _, Nat.zero_le _⟩ (fun r_2 σ_2 H locs hp_2 w => ?_)
  obtain ⟨e1, e2⟩ := hp_2
  rw [e2] at w
  refine g_eq (y := (nI (0))) (e1) ?_
  refine lv_if_eq (tgt := 29) hx hb dX1_countRange_5 (by decide) (fun _ => ?_) (fun hn => absurd (nI_0) hn)
  refine lv_iconst (v := (-1)) hx hb dX1_countRange_29 (by decide) ?_
  exact ret _ _ _ _ _ _ (⟨rfl, rfl⟩) w dX1_countRange_30
set_option maxHeartbeats 4000000 in
set_option maxRecDepth 100000 in
theorem m_countRange_bada (μ : ST) (t : Nat) (a b : Int32) (ht : t < 4) (hbad : a < 0 ∨ nI 31 < a) : KMi WM tM yX1_countRange cX1_countRange 6 (some .int) 2 [.int (nI (t)), .int (a), .int (b)] μ (fun r σ' => r = -1 ∧ σ' = μ) := by
  refine KMi.ofI (own := RX1) (by decide +kernel) rfl (fun _ => Nat.le_of_ble_eq_true rfl) ?_
  intro p l e s m args below meth c D h ad d A ls Q E w ret hl
  have hx := E.1
  have hb := E.2.1
  have hl : lv_has ls 6 [(0, .ref h), (1, .int (nI (t))), (2, .int (a)), (3, .int (b))] := hl
  refine lv_aload_n hx hb dX1_countRange_0 rfl (lv_at hl 0 rfl) ?_
  refine lv_iload_n hx hb dX1_countRange_1 rfl (lv_at hl 1 rfl) ?_
  refine k_calli (ci := 1) (C := RX1) (T := TX1) (N := 10) (m_isT_y μ t ht) E w q240 q242 qs12 q21 q243 rfl rfl 1 rfl (by decide +kernel) ⟨Nat.le_of_ble_eq_true rfl, Nat.le_of_ble_eq_true rfl⟩ hl.1 rfl (Nat.le_of_ble_eq_true rfl) dX1_countRange_2 ⟨Nat.zero_le _, Nat.zero_le _⟩ (fun r_2 σ_2 H locs hp_2 w => ?_)
  obtain ⟨e1, e2⟩ := hp_2
  rw [e2] at w
  refine g_eq (y := (nI (1))) (e1) ?_
  refine lv_if_eq (tgt := 29) hx hb dX1_countRange_5 (by decide) (fun hn => absurd hn (by decide)) (fun _ => ?_)
  refine lv_aload_n hx hb dX1_countRange_8 rfl (lv_at hl 0 rfl) ?_
  refine lv_iload_n hx hb dX1_countRange_9 rfl (lv_at hl 2 rfl) ?_
  refine k_calli (ci := 1) (C := RX1) (T := TX1) (N := 10) (m_isK_n μ a (hbad)) E w q252 q254 qs14 q21 q255 rfl rfl 1 rfl (by decide +kernel) ⟨Nat.le_of_ble_eq_true rfl, Nat.le_of_ble_eq_true rfl⟩ hl.1 rfl (Nat.le_of_ble_eq_true rfl) dX1_countRange_10 ⟨Nat.zero_le _, Nat.zero_le _⟩ (fun r_10 σ_10 H locs hp_10 w => ?_)
  obtain ⟨e1, e2⟩ := hp_10
  rw [e2] at w
  refine g_eq (y := (nI (0))) (e1) ?_
  refine lv_if_eq (tgt := 29) hx hb dX1_countRange_13 (by decide) (fun _ => ?_) (fun hn => absurd (nI_0) hn)
  refine lv_iconst (v := (-1)) hx hb dX1_countRange_29 (by decide) ?_
  exact ret _ _ _ _ _ _ (⟨rfl, rfl⟩) w dX1_countRange_30
set_option maxHeartbeats 4000000 in
set_option maxRecDepth 100000 in
theorem m_countRange_badb (μ : ST) (t a : Nat) (b : Int32) (ht : t < 4) (ha : a < 32) (hbad : b < 0 ∨ nI 31 < b) : KMi WM tM yX1_countRange cX1_countRange 6 (some .int) 2 [.int (nI (t)), .int (nI (a)), .int (b)] μ (fun r σ' => r = -1 ∧ σ' = μ) := by
  refine KMi.ofI (own := RX1) (by decide +kernel) rfl (fun _ => Nat.le_of_ble_eq_true rfl) ?_
  intro p l e s m args below meth c D h ad d A ls Q E w ret hl
  have hx := E.1
  have hb := E.2.1
  have hl : lv_has ls 6 [(0, .ref h), (1, .int (nI (t))), (2, .int (nI (a))), (3, .int (b))] := hl
  refine lv_aload_n hx hb dX1_countRange_0 rfl (lv_at hl 0 rfl) ?_
  refine lv_iload_n hx hb dX1_countRange_1 rfl (lv_at hl 1 rfl) ?_
  refine k_calli (ci := 1) (C := RX1) (T := TX1) (N := 10) (m_isT_y μ t ht) E w q240 q242 qs12 q21 q243 rfl rfl 1 rfl (by decide +kernel) ⟨Nat.le_of_ble_eq_true rfl, Nat.le_of_ble_eq_true rfl⟩ hl.1 rfl (Nat.le_of_ble_eq_true rfl) dX1_countRange_2 ⟨Nat.zero_le _, Nat.zero_le _⟩ (fun r_2 σ_2 H locs hp_2 w => ?_)
  obtain ⟨e1, e2⟩ := hp_2
  rw [e2] at w
  refine g_eq (y := (nI (1))) (e1) ?_
  refine lv_if_eq (tgt := 29) hx hb dX1_countRange_5 (by decide) (fun hn => absurd hn (by decide)) (fun _ => ?_)
  refine lv_aload_n hx hb dX1_countRange_8 rfl (lv_at hl 0 rfl) ?_
  refine lv_iload_n hx hb dX1_countRange_9 rfl (lv_at hl 2 rfl) ?_
  refine k_calli (ci := 1) (C := RX1) (T := TX1) (N := 10) (m_isK_y μ a ha) E w q252 q254 qs14 q21 q255 rfl rfl 1 rfl (by decide +kernel) ⟨Nat.le_of_ble_eq_true rfl, Nat.le_of_ble_eq_true rfl⟩ hl.1 rfl (Nat.le_of_ble_eq_true rfl) dX1_countRange_10 ⟨Nat.zero_le _, Nat.zero_le _⟩ (fun r_10 σ_10 H locs hp_10 w => ?_)
  obtain ⟨e1, e2⟩ := hp_10
  rw [e2] at w
  refine g_eq (y := (nI (1))) (e1) ?_
  refine lv_if_eq (tgt := 29) hx hb dX1_countRange_13 (by decide) (fun hn => absurd hn (by decide)) (fun _ => ?_)
  refine lv_aload_n hx hb dX1_countRange_16 rfl (lv_at hl 0 rfl) ?_
  refine lv_iload_n hx hb dX1_countRange_17 rfl (lv_at hl 3 rfl) ?_
  refine k_calli (ci := 1) (C := RX1) (T := TX1) (N := 10) (m_isK_n μ b (hbad)) E w q252 q254 qs14 q21 q255 rfl rfl 1 rfl (by decide +kernel) ⟨Nat.le_of_ble_eq_true rfl, Nat.le_of_ble_eq_true rfl⟩ hl.1 rfl (Nat.le_of_ble_eq_true rfl) dX1_countRange_18 ⟨Nat.zero_le _, Nat.zero_le _⟩ (fun r_18 σ_18 H locs hp_18 w => ?_)
  obtain ⟨e1, e2⟩ := hp_18
  rw [e2] at w
  refine g_eq (y := (nI (0))) (e1) ?_
  refine lv_if_eq (tgt := 29) hx hb dX1_countRange_21 (by decide) (fun _ => ?_) (fun hn => absurd (nI_0) hn)
  refine lv_iconst (v := (-1)) hx hb dX1_countRange_29 (by decide) ?_
  exact ret _ _ _ _ _ _ (⟨rfl, rfl⟩) w dX1_countRange_30
set_option maxHeartbeats 4000000 in
set_option maxRecDepth 100000 in
theorem m_countRange_lt (μ : ST) (t a b : Nat) (ht : t < 4) (ha : a < 32) (hb32 : b < 32) (hab : b < a) : KMi WM tM yX1_countRange cX1_countRange 6 (some .int) 2 [.int (nI (t)), .int (nI (a)), .int (nI (b))] μ (fun r σ' => r = -1 ∧ σ' = μ) := by
  refine KMi.ofI (own := RX1) (by decide +kernel) rfl (fun _ => Nat.le_of_ble_eq_true rfl) ?_
  intro p l e s m args below meth c D h ad d A ls Q E w ret hl
  have hx := E.1
  have hb := E.2.1
  have hl : lv_has ls 6 [(0, .ref h), (1, .int (nI (t))), (2, .int (nI (a))), (3, .int (nI (b)))] := hl
  refine lv_aload_n hx hb dX1_countRange_0 rfl (lv_at hl 0 rfl) ?_
  refine lv_iload_n hx hb dX1_countRange_1 rfl (lv_at hl 1 rfl) ?_
  refine k_calli (ci := 1) (C := RX1) (T := TX1) (N := 10) (m_isT_y μ t ht) E w q240 q242 qs12 q21 q243 rfl rfl 1 rfl (by decide +kernel) ⟨Nat.le_of_ble_eq_true rfl, Nat.le_of_ble_eq_true rfl⟩ hl.1 rfl (Nat.le_of_ble_eq_true rfl) dX1_countRange_2 ⟨Nat.zero_le _, Nat.zero_le _⟩ (fun r_2 σ_2 H locs hp_2 w => ?_)
  obtain ⟨e1, e2⟩ := hp_2
  rw [e2] at w
  refine g_eq (y := (nI (1))) (e1) ?_
  refine lv_if_eq (tgt := 29) hx hb dX1_countRange_5 (by decide) (fun hn => absurd hn (by decide)) (fun _ => ?_)
  refine lv_aload_n hx hb dX1_countRange_8 rfl (lv_at hl 0 rfl) ?_
  refine lv_iload_n hx hb dX1_countRange_9 rfl (lv_at hl 2 rfl) ?_
  refine k_calli (ci := 1) (C := RX1) (T := TX1) (N := 10) (m_isK_y μ a ha) E w q252 q254 qs14 q21 q255 rfl rfl 1 rfl (by decide +kernel) ⟨Nat.le_of_ble_eq_true rfl, Nat.le_of_ble_eq_true rfl⟩ hl.1 rfl (Nat.le_of_ble_eq_true rfl) dX1_countRange_10 ⟨Nat.zero_le _, Nat.zero_le _⟩ (fun r_10 σ_10 H locs hp_10 w => ?_)
  obtain ⟨e1, e2⟩ := hp_10
  rw [e2] at w
  refine g_eq (y := (nI (1))) (e1) ?_
  refine lv_if_eq (tgt := 29) hx hb dX1_countRange_13 (by decide) (fun hn => absurd hn (by decide)) (fun _ => ?_)
  refine lv_aload_n hx hb dX1_countRange_16 rfl (lv_at hl 0 rfl) ?_
  refine lv_iload_n hx hb dX1_countRange_17 rfl (lv_at hl 3 rfl) ?_
  refine k_calli (ci := 1) (C := RX1) (T := TX1) (N := 10) (m_isK_y μ b hb32) E w q252 q254 qs14 q21 q255 rfl rfl 1 rfl (by decide +kernel) ⟨Nat.le_of_ble_eq_true rfl, Nat.le_of_ble_eq_true rfl⟩ hl.1 rfl (Nat.le_of_ble_eq_true rfl) dX1_countRange_18 ⟨Nat.zero_le _, Nat.zero_le _⟩ (fun r_18 σ_18 H locs hp_18 w => ?_)
  obtain ⟨e1, e2⟩ := hp_18
  rw [e2] at w
  refine g_eq (y := (nI (1))) (e1) ?_
  refine lv_if_eq (tgt := 29) hx hb dX1_countRange_21 (by decide) (fun hn => absurd hn (by decide)) (fun _ => ?_)
  refine lv_iload_n hx hb dX1_countRange_24 rfl (lv_at hl 2 rfl) ?_
  refine lv_iload_n hx hb dX1_countRange_25 rfl (lv_at hl 3 rfl) ?_
  refine lv_icmp_le (tgt := 31) hx hb dX1_countRange_26 (by decide) (fun hn => absurd hn (nI_ge hab (by omega))) (fun _ => ?_)
  refine lv_iconst (v := (-1)) hx hb dX1_countRange_29 (by decide) ?_
  exact ret _ _ _ _ _ _ (⟨rfl, rfl⟩) w dX1_countRange_30
set_option maxHeartbeats 4000000 in
set_option maxRecDepth 100000 in
theorem m_countRange_cl (μ : ST) (t a b : Nat) (ht : t < 4) (ha : a < 32) (hb32 : b < 32) (hab : a ≤ b) (ho : μ 4 t = 0) : KMi WM tM yX1_countRange cX1_countRange 6 (some .int) 2 [.int (nI (t)), .int (nI (a)), .int (nI (b))] μ (fun r σ' => r = -3 ∧ σ' = μ) := by
  refine KMi.ofI (own := RX1) (by decide +kernel) rfl (fun _ => Nat.le_of_ble_eq_true rfl) ?_
  intro p l e s m args below meth c D h ad d A ls Q E w ret hl
  have hx := E.1
  have hb := E.2.1
  have hl : lv_has ls 6 [(0, .ref h), (1, .int (nI (t))), (2, .int (nI (a))), (3, .int (nI (b)))] := hl
  refine lv_aload_n hx hb dX1_countRange_0 rfl (lv_at hl 0 rfl) ?_
  refine lv_iload_n hx hb dX1_countRange_1 rfl (lv_at hl 1 rfl) ?_
  refine k_calli (ci := 1) (C := RX1) (T := TX1) (N := 10) (m_isT_y μ t ht) E w q240 q242 qs12 q21 q243 rfl rfl 1 rfl (by decide +kernel) ⟨Nat.le_of_ble_eq_true rfl, Nat.le_of_ble_eq_true rfl⟩ hl.1 rfl (Nat.le_of_ble_eq_true rfl) dX1_countRange_2 ⟨Nat.zero_le _, Nat.zero_le _⟩ (fun r_2 σ_2 H locs hp_2 w => ?_)
  obtain ⟨e1, e2⟩ := hp_2
  rw [e2] at w
  refine g_eq (y := (nI (1))) (e1) ?_
  refine lv_if_eq (tgt := 29) hx hb dX1_countRange_5 (by decide) (fun hn => absurd hn (by decide)) (fun _ => ?_)
  refine lv_aload_n hx hb dX1_countRange_8 rfl (lv_at hl 0 rfl) ?_
  refine lv_iload_n hx hb dX1_countRange_9 rfl (lv_at hl 2 rfl) ?_
  refine k_calli (ci := 1) (C := RX1) (T := TX1) (N := 10) (m_isK_y μ a ha) E w q252 q254 qs14 q21 q255 rfl rfl 1 rfl (by decide +kernel) ⟨Nat.le_of_ble_eq_true rfl, Nat.le_of_ble_eq_true rfl⟩ hl.1 rfl (Nat.le_of_ble_eq_true rfl) dX1_countRange_10 ⟨Nat.zero_le _, Nat.zero_le _⟩ (fun r_10 σ_10 H locs hp_10 w => ?_)
  obtain ⟨e1, e2⟩ := hp_10
  rw [e2] at w
  refine g_eq (y := (nI (1))) (e1) ?_
  refine lv_if_eq (tgt := 29) hx hb dX1_countRange_13 (by decide) (fun hn => absurd hn (by decide)) (fun _ => ?_)
  refine lv_aload_n hx hb dX1_countRange_16 rfl (lv_at hl 0 rfl) ?_
  refine lv_iload_n hx hb dX1_countRange_17 rfl (lv_at hl 3 rfl) ?_
  refine k_calli (ci := 1) (C := RX1) (T := TX1) (N := 10) (m_isK_y μ b hb32) E w q252 q254 qs14 q21 q255 rfl rfl 1 rfl (by decide +kernel) ⟨Nat.le_of_ble_eq_true rfl, Nat.le_of_ble_eq_true rfl⟩ hl.1 rfl (Nat.le_of_ble_eq_true rfl) dX1_countRange_18 ⟨Nat.zero_le _, Nat.zero_le _⟩ (fun r_18 σ_18 H locs hp_18 w => ?_)
  obtain ⟨e1, e2⟩ := hp_18
  rw [e2] at w
  refine g_eq (y := (nI (1))) (e1) ?_
  refine lv_if_eq (tgt := 29) hx hb dX1_countRange_21 (by decide) (fun hn => absurd hn (by decide)) (fun _ => ?_)
  refine lv_iload_n hx hb dX1_countRange_24 rfl (lv_at hl 2 rfl) ?_
  refine lv_iload_n hx hb dX1_countRange_25 rfl (lv_at hl 3 rfl) ?_
  refine lv_icmp_le (tgt := 31) hx hb dX1_countRange_26 (by decide) (fun _ => ?_) (fun hn => absurd (nI_le hab (by omega)) hn)
  refine lv_aload_n hx hb dX1_countRange_31 rfl (lv_at hl 0 rfl) ?_
  refine m_get (v := .ref (ad 4)) E w 4 (by decide) q209 rfl dX1_countRange_32 ?_
  refine lv_iload_n hx hb dX1_countRange_35 rfl (lv_at hl 1 rfl) ?_
  refine g_zald (f := μ 4) E w 4 3 rfl rfl (by omega) (by decide) dX1_countRange_36 ?_
  refine lv_if_ne (tgt := 43) hx hb dX1_countRange_37 (by decide) (fun hn => absurd hn (fun z => z ho)) (fun _ => ?_)
  refine lv_bipush (v := (-3)) hx hb dX1_countRange_40 (by decide) ?_
  exact ret _ _ _ _ _ _ (⟨rfl, rfl⟩) w dX1_countRange_42
set_option maxHeartbeats 4000000 in
set_option maxRecDepth 100000 in
theorem m_countRange (μ : ST) (t a b : Nat) (f : Nat → Bool) (ht : t < 4) (ha : a < 32) (hb32 : b < 32) (hab : a ≤ b) (ho : ¬ μ 4 t = 0) (hf : ∀ k, k < 32 → μ 5 (32 * t + k) = bI (f k)) : KMi WM tM yX1_countRange cX1_countRange 6 (some .int) 2 [.int (nI (t)), .int (nI (a)), .int (nI (b))] μ (fun r σ' => r = nI (fb_ct (fun j => f (a + j)) (b + 1 - a)) ∧ σ' = su μ 8 t (orr (μ 8 t) a (b + 1 - a))) := by
  refine KMi.ofI (own := RX1) (by decide +kernel) rfl (fun _ => Nat.le_of_ble_eq_true rfl) ?_
  intro p l e s m args below meth c D h ad d A ls Q E w ret hl
  have hx := E.1
  have hb := E.2.1
  have hl : lv_has ls 6 [(0, .ref h), (1, .int (nI (t))), (2, .int (nI (a))), (3, .int (nI (b)))] := hl
  refine lv_aload_n hx hb dX1_countRange_0 rfl (lv_at hl 0 rfl) ?_
  refine lv_iload_n hx hb dX1_countRange_1 rfl (lv_at hl 1 rfl) ?_
  refine k_calli (ci := 1) (C := RX1) (T := TX1) (N := 10) (m_isT_y μ t ht) E w q240 q242 qs12 q21 q243 rfl rfl 1 rfl (by decide +kernel) ⟨Nat.le_of_ble_eq_true rfl, Nat.le_of_ble_eq_true rfl⟩ hl.1 rfl (Nat.le_of_ble_eq_true rfl) dX1_countRange_2 ⟨Nat.zero_le _, Nat.zero_le _⟩ (fun r_2 σ_2 H locs hp_2 w => ?_)
  obtain ⟨e1, e2⟩ := hp_2
  rw [e2] at w
  refine g_eq (y := (nI (1))) (e1) ?_
  refine lv_if_eq (tgt := 29) hx hb dX1_countRange_5 (by decide) (fun hn => absurd hn (by decide)) (fun _ => ?_)
  refine lv_aload_n hx hb dX1_countRange_8 rfl (lv_at hl 0 rfl) ?_
  refine lv_iload_n hx hb dX1_countRange_9 rfl (lv_at hl 2 rfl) ?_
  refine k_calli (ci := 1) (C := RX1) (T := TX1) (N := 10) (m_isK_y μ a ha) E w q252 q254 qs14 q21 q255 rfl rfl 1 rfl (by decide +kernel) ⟨Nat.le_of_ble_eq_true rfl, Nat.le_of_ble_eq_true rfl⟩ hl.1 rfl (Nat.le_of_ble_eq_true rfl) dX1_countRange_10 ⟨Nat.zero_le _, Nat.zero_le _⟩ (fun r_10 σ_10 H locs hp_10 w => ?_)
  obtain ⟨e1, e2⟩ := hp_10
  rw [e2] at w
  refine g_eq (y := (nI (1))) (e1) ?_
  refine lv_if_eq (tgt := 29) hx hb dX1_countRange_13 (by decide) (fun hn => absurd hn (by decide)) (fun _ => ?_)
  refine lv_aload_n hx hb dX1_countRange_16 rfl (lv_at hl 0 rfl) ?_
  refine lv_iload_n hx hb dX1_countRange_17 rfl (lv_at hl 3 rfl) ?_
  refine k_calli (ci := 1) (C := RX1) (T := TX1) (N := 10) (m_isK_y μ b hb32) E w q252 q254 qs14 q21 q255 rfl rfl 1 rfl (by decide +kernel) ⟨Nat.le_of_ble_eq_true rfl, Nat.le_of_ble_eq_true rfl⟩ hl.1 rfl (Nat.le_of_ble_eq_true rfl) dX1_countRange_18 ⟨Nat.zero_le _, Nat.zero_le _⟩ (fun r_18 σ_18 H locs hp_18 w => ?_)
  obtain ⟨e1, e2⟩ := hp_18
  rw [e2] at w
  refine g_eq (y := (nI (1))) (e1) ?_
  refine lv_if_eq (tgt := 29) hx hb dX1_countRange_21 (by decide) (fun hn => absurd hn (by decide)) (fun _ => ?_)
  refine lv_iload_n hx hb dX1_countRange_24 rfl (lv_at hl 2 rfl) ?_
  refine lv_iload_n hx hb dX1_countRange_25 rfl (lv_at hl 3 rfl) ?_
  refine lv_icmp_le (tgt := 31) hx hb dX1_countRange_26 (by decide) (fun _ => ?_) (fun hn => absurd (nI_le hab (by omega)) hn)
  refine lv_aload_n hx hb dX1_countRange_31 rfl (lv_at hl 0 rfl) ?_
  refine m_get (v := .ref (ad 4)) E w 4 (by decide) q209 rfl dX1_countRange_32 ?_
  refine lv_iload_n hx hb dX1_countRange_35 rfl (lv_at hl 1 rfl) ?_
  refine g_zald (f := μ 4) E w 4 3 rfl rfl (by omega) (by decide) dX1_countRange_36 ?_
  refine lv_if_ne (tgt := 43) hx hb dX1_countRange_37 (by decide) (fun _ => ?_) (fun hn => absurd hn (ho))
  refine lv_iconst (v := (nI (0))) hx hb dX1_countRange_43 (by decide) ?_
  refine lv_istore (lv' := [(4, .int (nI (0))), (0, .ref h), (1, .int (nI (t))), (2, .int (nI (a))), (3, .int (nI (b)))]) hx hb dX1_countRange_44 hl (by decide) rfl (fun ls hl => ?_)
  refine lv_iload_n hx hb dX1_countRange_46 rfl (lv_at hl 3 rfl) ?_
  refine lv_istore (lv' := [(5, .int (nI (a))), (4, .int (nI (0))), (0, .ref h), (1, .int (nI (t))), (2, .int (nI (a))), (3, .int (nI (b)))]) hx hb dX1_countRange_47 hl (by decide) rfl (fun ls hl => ?_)
  have loop : ∀ (u q : Nat), q + u = b + 1 - a → ∀ (H : Heap) (locs : List Loc) (ls : Array Slot), GW D A s.heap s (tM d) (WM h ad d (su μ 8 t (orr (μ 8 t) a q))) H locs → lv_has ls 6 [(5, .int (nI (a + q))), (4, .int (nI (fb_ct (fun j => f (a + j)) q))), (0, .ref h), (1, .int (nI (t))), (2, .int (nI (a))), (3, .int (nI (b)))] → W p l e (rm 2) s m args below meth c H locs 0 0 Q (F0 m 49 ls []) := by
    intro u
    induction u with
    | zero =>
      intro q hq H locs ls w hl
      refine lv_iload hx hb dX1_countRange_49 (lv_at hl 0 rfl) ?_
      refine lv_iload_n hx hb dX1_countRange_51 rfl (lv_at hl 5 rfl) ?_
      refine lv_icmp_gt (tgt := 73) hx hb dX1_countRange_52 (by decide) (fun _ => ?_) (fun hn => absurd (nI_lt (by omega) (by omega)) hn)
      refine lv_iload hx hb dX1_countRange_73 (lv_at hl 1 rfl) ?_
      exact ret _ _ _ _ _ _ (⟨by rw [show q = b + 1 - a by omega], by rw [show q = b + 1 - a by omega]⟩) w dX1_countRange_75
    | succ u ih =>
      intro q hq H locs ls w hl
      refine lv_iload hx hb dX1_countRange_49 (lv_at hl 0 rfl) ?_
      refine lv_iload_n hx hb dX1_countRange_51 rfl (lv_at hl 5 rfl) ?_
      refine lv_icmp_gt (tgt := 73) hx hb dX1_countRange_52 (by decide) (fun hn => absurd hn (nI_nlt (by omega) (by omega))) (fun _ => ?_)
      refine lv_iload hx hb dX1_countRange_55 (lv_at hl 1 rfl) ?_
      refine lv_aload_n hx hb dX1_countRange_57 rfl (lv_at hl 2 rfl) ?_
      refine lv_iload_n hx hb dX1_countRange_58 rfl (lv_at hl 3 rfl) ?_
      refine lv_iload hx hb dX1_countRange_59 (lv_at hl 0 rfl) ?_
      refine k_calli (ci := 1) (C := RX1) (T := TX1) (N := 10) (m_read (su μ 8 t (orr (μ 8 t) a q)) t (a + q) (f (a + q)) ht (by omega) ho (hf _ (by omega))) E w q280 q269 q270 q21 q271 rfl rfl 2 rfl (by decide +kernel) ⟨Nat.le_of_ble_eq_true rfl, Nat.le_of_ble_eq_true rfl⟩ hl.1 rfl (Nat.le_of_ble_eq_true rfl) dX1_countRange_61 ⟨Nat.zero_le _, Nat.zero_le _⟩ (fun r_61 σ_61 H locs hp_61 w => ?_)
      obtain ⟨e1, e2⟩ := hp_61
      rw [e2, show (su μ 8 t (orr (μ 8 t) a q)) 8 t = orr (μ 8 t) a q from pk_us, su_su] at w
      have w : GW D A s.heap s (tM d) (WM h ad d (su μ 8 t (orr (μ 8 t) a (q + 1)))) H locs := w
      have hc : r_61 = nI (if f (a + q) then 1 else 0) := by rw [e1]; cases f (a + q) <;> rfl
      refine g_eq (y := (nI (if f (a + q) then 1 else 0))) (hc) ?_
      refine n_iadd hx hb dX1_countRange_64 ?_
      refine g_eq (y := (nI (fb_ct (fun j => f (a + j)) (q + 1)))) (rfl) ?_
      refine lv_istore (lv' := [(4, .int (nI (fb_ct (fun j => f (a + j)) (q + 1)))), (5, .int (nI (a + q))), (0, .ref h), (1, .int (nI (t))), (2, .int (nI (a))), (3, .int (nI (b)))]) hx hb dX1_countRange_65 hl (by decide) rfl (fun ls hl => ?_)
      refine lv_iinc (v := (nI (a + (q + 1)))) (lv' := [(5, .int (nI (a + (q + 1)))), (4, .int (nI (fb_ct (fun j => f (a + j)) (q + 1)))), (0, .ref h), (1, .int (nI (t))), (2, .int (nI (a))), (3, .int (nI (b)))]) hx hb dX1_countRange_67 hl (k := 1) rfl (nI_1 (a + q)) (by decide) rfl (fun ls hl => ?_)
      refine lv_goto (tgt := 49) hx hb dX1_countRange_70 (by decide) ?_
      exact ih (q + 1) (by omega) H locs ls w hl
  rw [← su_same μ 8 t] at w
  exact loop (b + 1 - a) 0 (by omega) H locs ls w hl
set_option maxHeartbeats 4000000 in
set_option maxRecDepth 100000 in
theorem m_abort_bad (μ : ST) (t : Int32) (hbad : t < 0 ∨ nI 3 < t) : KMi WM tM yX1_abort cX1_abort 2 (some .int) 2 [.int (t)] μ (fun r σ' => r = -1 ∧ σ' = μ) := by
  refine KMi.ofI (own := RX1) (by decide +kernel) rfl (fun _ => Nat.le_of_ble_eq_true rfl) ?_
  intro p l e s m args below meth c D h ad d A ls Q E w ret hl
  have hx := E.1
  have hb := E.2.1
  have hl : lv_has ls 2 [(0, .ref h), (1, .int (t))] := hl
  refine lv_aload_n hx hb dX1_abort_0 rfl (lv_at hl 0 rfl) ?_
  refine lv_iload_n hx hb dX1_abort_1 rfl (lv_at hl 1 rfl) ?_
  refine k_calli (ci := 1) (C := RX1) (T := TX1) (N := 10) (m_isT_n μ t (hbad)) E w q240 q242 qs12 q21 q243 rfl rfl 1 rfl (by decide +kernel) ⟨Nat.le_of_ble_eq_true rfl, Nat.le_of_ble_eq_true rfl⟩ hl.1 rfl (Nat.le_of_ble_eq_true rfl) dX1_abort_2 ⟨Nat.zero_le _, Nat.zero_le _⟩ (fun r_2 σ_2 H locs hp_2 w => ?_)
  obtain ⟨e1, e2⟩ := hp_2
  rw [e2] at w
  refine g_eq (y := (nI (0))) (e1) ?_
  refine lv_if_ne (tgt := 10) hx hb dX1_abort_5 (by decide) (fun hn => absurd hn (fun z => z nI_0)) (fun _ => ?_)
  refine lv_iconst (v := (-1)) hx hb dX1_abort_8 (by decide) ?_
  exact ret _ _ _ _ _ _ (⟨rfl, rfl⟩) w dX1_abort_9
set_option maxHeartbeats 4000000 in
set_option maxRecDepth 100000 in
theorem m_abort_cl (μ : ST) (t : Nat) (ht : t < 4) (ho : μ 4 t = 0) : KMi WM tM yX1_abort cX1_abort 2 (some .int) 2 [.int (nI (t))] μ (fun r σ' => r = -3 ∧ σ' = μ) := by
  refine KMi.ofI (own := RX1) (by decide +kernel) rfl (fun _ => Nat.le_of_ble_eq_true rfl) ?_
  intro p l e s m args below meth c D h ad d A ls Q E w ret hl
  have hx := E.1
  have hb := E.2.1
  have hl : lv_has ls 2 [(0, .ref h), (1, .int (nI (t)))] := hl
  refine lv_aload_n hx hb dX1_abort_0 rfl (lv_at hl 0 rfl) ?_
  refine lv_iload_n hx hb dX1_abort_1 rfl (lv_at hl 1 rfl) ?_
  refine k_calli (ci := 1) (C := RX1) (T := TX1) (N := 10) (m_isT_y μ t ht) E w q240 q242 qs12 q21 q243 rfl rfl 1 rfl (by decide +kernel) ⟨Nat.le_of_ble_eq_true rfl, Nat.le_of_ble_eq_true rfl⟩ hl.1 rfl (Nat.le_of_ble_eq_true rfl) dX1_abort_2 ⟨Nat.zero_le _, Nat.zero_le _⟩ (fun r_2 σ_2 H locs hp_2 w => ?_)
  obtain ⟨e1, e2⟩ := hp_2
  rw [e2] at w
  refine g_eq (y := (nI (1))) (e1) ?_
  refine lv_if_ne (tgt := 10) hx hb dX1_abort_5 (by decide) (fun _ => ?_) (fun hn => absurd hn (by decide))
  refine lv_aload_n hx hb dX1_abort_10 rfl (lv_at hl 0 rfl) ?_
  refine m_get (v := .ref (ad 4)) E w 4 (by decide) q209 rfl dX1_abort_11 ?_
  refine lv_iload_n hx hb dX1_abort_14 rfl (lv_at hl 1 rfl) ?_
  refine g_zald (f := μ 4) E w 4 3 rfl rfl (by omega) (by decide) dX1_abort_15 ?_
  refine lv_if_ne (tgt := 22) hx hb dX1_abort_16 (by decide) (fun hn => absurd hn (fun z => z ho)) (fun _ => ?_)
  refine lv_bipush (v := (-3)) hx hb dX1_abort_19 (by decide) ?_
  exact ret _ _ _ _ _ _ (⟨rfl, rfl⟩) w dX1_abort_21
set_option maxHeartbeats 4000000 in
set_option maxRecDepth 100000 in
theorem m_abort (μ : ST) (t : Nat) (ht : t < 4) (ho : ¬ μ 4 t = 0) : KMi WM tM yX1_abort cX1_abort 2 (some .int) 2 [.int (nI (t))] μ (fun r σ' => r = nI (fb_ct (bt (μ 7 t)) 32) ∧ σ' = su μ 4 t (nI 0)) := by
  refine KMi.ofI (own := RX1) (by decide +kernel) rfl (fun _ => Nat.le_of_ble_eq_true rfl) ?_
  intro p l e s m args below meth c D h ad d A ls Q E w ret hl
  have hx := E.1
  have hb := E.2.1
  have hl : lv_has ls 2 [(0, .ref h), (1, .int (nI (t)))] := hl
  refine lv_aload_n hx hb dX1_abort_0 rfl (lv_at hl 0 rfl) ?_
  refine lv_iload_n hx hb dX1_abort_1 rfl (lv_at hl 1 rfl) ?_
  refine k_calli (ci := 1) (C := RX1) (T := TX1) (N := 10) (m_isT_y μ t ht) E w q240 q242 qs12 q21 q243 rfl rfl 1 rfl (by decide +kernel) ⟨Nat.le_of_ble_eq_true rfl, Nat.le_of_ble_eq_true rfl⟩ hl.1 rfl (Nat.le_of_ble_eq_true rfl) dX1_abort_2 ⟨Nat.zero_le _, Nat.zero_le _⟩ (fun r_2 σ_2 H locs hp_2 w => ?_)
  obtain ⟨e1, e2⟩ := hp_2
  rw [e2] at w
  refine g_eq (y := (nI (1))) (e1) ?_
  refine lv_if_ne (tgt := 10) hx hb dX1_abort_5 (by decide) (fun _ => ?_) (fun hn => absurd hn (by decide))
  refine lv_aload_n hx hb dX1_abort_10 rfl (lv_at hl 0 rfl) ?_
  refine m_get (v := .ref (ad 4)) E w 4 (by decide) q209 rfl dX1_abort_11 ?_
  refine lv_iload_n hx hb dX1_abort_14 rfl (lv_at hl 1 rfl) ?_
  refine g_zald (f := μ 4) E w 4 3 rfl rfl (by omega) (by decide) dX1_abort_15 ?_
  refine lv_if_ne (tgt := 22) hx hb dX1_abort_16 (by decide) (fun _ => ?_) (fun hn => absurd hn (ho))
  refine lv_aload_n hx hb dX1_abort_22 rfl (lv_at hl 0 rfl) ?_
  refine m_get (v := .ref (ad 4)) E w 4 (by decide) q209 rfl dX1_abort_23 ?_
  refine lv_iload_n hx hb dX1_abort_26 rfl (lv_at hl 1 rfl) ?_
  refine lv_iconst (v := (nI (0))) hx hb dX1_abort_27 (by decide) ?_
  refine g_zast (f := μ 4) (ws' := WM h ad d (su μ 4 (t) (nI (0)))) E w 4 3 rfl rfl (by omega) (by decide) (rfl) rfl dX1_abort_28 (fun H locs w => ?_)
  refine lv_aload_n hx hb dX1_abort_29 rfl (lv_at hl 0 rfl) ?_
  refine lv_aload_n hx hb dX1_abort_30 rfl (lv_at hl 0 rfl) ?_
  refine m_get (v := .ref (ad 7)) E w 7 (by decide) q212 rfl dX1_abort_31 ?_
  refine lv_iload_n hx hb dX1_abort_34 rfl (lv_at hl 1 rfl) ?_
  refine g_iald (f := μ 7) E w 7 6 rfl rfl (by omega) (by decide) dX1_abort_35 ?_
  refine k_calli (ci := 1) (C := RX1) (T := TX1) (N := 10) (m_sizeOf (su μ 4 t (nI 0)) (μ 7 t)) E w q256 q258 qs15 q21 q259 rfl rfl 1 rfl (by decide +kernel) ⟨Nat.le_of_ble_eq_true rfl, Nat.le_of_ble_eq_true rfl⟩ hl.1 rfl (Nat.le_of_ble_eq_true rfl) dX1_abort_36 ⟨Nat.zero_le _, Nat.zero_le _⟩ (fun r_36 σ_36 H locs hp_36 w => ?_)
  exact ret _ _ _ _ _ _ (hp_36) w dX1_abort_39
set_option maxHeartbeats 4000000 in
set_option maxRecDepth 100000 in
theorem m_latest (μ : ST) (L : Nat) (hL : μ 0 0 = nI L) (hL2 : L < 1000) : KMi WM tM yX1_latest cX1_latest 1 (some .int) 0 [] μ (fun r σ' => r = nI L ∧ σ' = μ) := by
  refine KMi.ofI (own := RX1) (by decide +kernel) rfl (fun _ => Nat.le_of_ble_eq_true rfl) ?_
  intro p l e s m args below meth c D h ad d A ls Q E w ret hl
  have hx := E.1
  have hb := E.2.1
  have hl : lv_has ls 1 [(0, .ref h)] := hl
  refine lv_aload_n hx hb dX1_latest_0 rfl (lv_at hl 0 rfl) ?_
  refine m_get (v := .int (μ 0 0)) E w 0 (by decide) q205 rfl dX1_latest_1 ?_
  refine g_eq (y := (nI (L))) (hL) ?_
  exact ret _ _ _ _ _ _ (⟨rfl, rfl⟩) w dX1_latest_4
set_option maxHeartbeats 4000000 in
set_option maxRecDepth 100000 in
theorem m_ex_y (μ : ST) (a : Nat) (L : Nat) (hL : μ 0 0 = nI L) (hL2 : L < 1000) (ha : a ≤ L) : KMi WM tM yX1_exists cX1_exists 2 (some .boolean) 0 [.int (nI (a))] μ (fun r σ' => r = nI 1 ∧ σ' = μ) := by
  refine KMi.ofZ (own := RX1) (by decide +kernel) rfl (fun _ => Nat.le_of_ble_eq_true rfl) ?_
  intro p l e s m args below meth c D h ad d A ls Q E w ret hl
  have hx := E.1
  have hb := E.2.1
  have hl : lv_has ls 2 [(0, .ref h), (1, .int (nI (a)))] := hl
  refine lv_iload_n hx hb dX1_exists_0 rfl (lv_at hl 1 rfl) ?_
  refine lv_if_lt (tgt := 16) hx hb dX1_exists_1 (by decide) (fun hn => absurd hn (nI_pos (by omega))) (fun _ => ?_)
  refine lv_iload_n hx hb dX1_exists_4 rfl (lv_at hl 1 rfl) ?_
  refine lv_aload_n hx hb dX1_exists_5 rfl (lv_at hl 0 rfl) ?_
  refine m_get (v := .int (μ 0 0)) E w 0 (by decide) q205 rfl dX1_exists_6 ?_
  refine g_eq (y := (nI (L))) (hL) ?_
  refine lv_icmp_gt (tgt := 16) hx hb dX1_exists_9 (by decide) (fun hn => absurd hn (nI_nlt (by omega) (by omega))) (fun _ => ?_)
  refine lv_iconst (v := (nI (1))) hx hb dX1_exists_12 (by decide) ?_
  refine lv_goto (tgt := 17) hx hb dX1_exists_13 (by decide) ?_
  exact ret _ _ _ _ _ _ (rfl) (⟨rfl, rfl⟩) w dX1_exists_17
set_option maxHeartbeats 4000000 in
set_option maxRecDepth 100000 in
theorem m_ex_n (μ : ST) (x : Int32) (L : Nat) (hL : μ 0 0 = nI L) (hL2 : L < 1000) (hbad : x < 0 ∨ nI L < x) : KMi WM tM yX1_exists cX1_exists 2 (some .boolean) 0 [.int (x)] μ (fun r σ' => r = nI 0 ∧ σ' = μ) := by
  refine KMi.ofZ (own := RX1) (by decide +kernel) rfl (fun _ => Nat.le_of_ble_eq_true rfl) ?_
  intro p l e s m args below meth c D h ad d A ls Q E w ret hl
  have hx := E.1
  have hb := E.2.1
  have hl : lv_has ls 2 [(0, .ref h), (1, .int (x))] := hl
  refine lv_iload_n hx hb dX1_exists_0 rfl (lv_at hl 1 rfl) ?_
  refine lv_if_lt (tgt := 16) hx hb dX1_exists_1 (by decide) (fun c1 => ?_) (fun c1 => ?_)
  · refine lv_iconst (v := (nI (0))) hx hb dX1_exists_16 (by decide) ?_
    exact ret _ _ _ _ _ _ (rfl) (⟨rfl, rfl⟩) w dX1_exists_17
  · refine lv_iload_n hx hb dX1_exists_4 rfl (lv_at hl 1 rfl) ?_
    refine lv_aload_n hx hb dX1_exists_5 rfl (lv_at hl 0 rfl) ?_
    refine m_get (v := .int (μ 0 0)) E w 0 (by decide) q205 rfl dX1_exists_6 ?_
    refine g_eq (y := (nI (L))) (hL) ?_
    refine lv_icmp_gt (tgt := 16) hx hb dX1_exists_9 (by decide) (fun _ => ?_) (fun hn => absurd (hbad.resolve_left c1) hn)
    refine lv_iconst (v := (nI (0))) hx hb dX1_exists_16 (by decide) ?_
    exact ret _ _ _ _ _ _ (rfl) (⟨rfl, rfl⟩) w dX1_exists_17
set_option maxHeartbeats 4000000 in
set_option maxRecDepth 100000 in
theorem m_kept_y (μ : ST) (a : Nat) (L : Nat) (hL : μ 0 0 = nI L) (hL2 : L < 1000) (ha : a ≤ L) (ha6 : L < a + 6) : KMi WM tM yX1_isKept cX1_isKept 2 (some .boolean) 1 [.int (nI (a))] μ (fun r σ' => r = nI 1 ∧ σ' = μ) := by
  refine KMi.ofZ (own := RX1) (by decide +kernel) rfl (fun _ => Nat.le_of_ble_eq_true rfl) ?_
  intro p l e s m args below meth c D h ad d A ls Q E w ret hl
  have hx := E.1
  have hb := E.2.1
  have hl : lv_has ls 2 [(0, .ref h), (1, .int (nI (a)))] := hl
  refine lv_aload_n hx hb dX1_isKept_0 rfl (lv_at hl 0 rfl) ?_
  refine lv_iload_n hx hb dX1_isKept_1 rfl (lv_at hl 1 rfl) ?_
  refine k_calli (ci := 1) (C := RX1) (T := TX1) (N := 10) (m_ex_y μ a L hL hL2 ha) E w q301 q303 qs18 q21 q304 rfl rfl 1 rfl (by decide +kernel) ⟨Nat.le_of_ble_eq_true rfl, Nat.le_of_ble_eq_true rfl⟩ hl.1 rfl (Nat.le_of_ble_eq_true rfl) dX1_isKept_2 ⟨Nat.zero_le _, Nat.zero_le _⟩ (fun r_2 σ_2 H locs hp_2 w => ?_)
  obtain ⟨e1, e2⟩ := hp_2
  rw [e2] at w
  refine g_eq (y := (nI (1))) (e1) ?_
  refine lv_if_eq (tgt := 23) hx hb dX1_isKept_5 (by decide) (fun hn => absurd hn (by decide)) (fun _ => ?_)
  refine lv_iload_n hx hb dX1_isKept_8 rfl (lv_at hl 1 rfl) ?_
  refine lv_aload_n hx hb dX1_isKept_9 rfl (lv_at hl 0 rfl) ?_
  refine m_get (v := .int (μ 0 0)) E w 0 (by decide) q205 rfl dX1_isKept_10 ?_
  refine g_eq (y := (nI (L))) (hL) ?_
  refine lv_bipush (v := (nI (6))) hx hb dX1_isKept_13 (by decide) ?_
  refine lv_isub hx hb dX1_isKept_15 ?_
  refine lv_icmp_le (tgt := 23) hx hb dX1_isKept_16 (by decide) (fun hn => absurd hn (kept_n hL2 ha ha6)) (fun _ => ?_)
  refine lv_iconst (v := (nI (1))) hx hb dX1_isKept_19 (by decide) ?_
  refine lv_goto (tgt := 24) hx hb dX1_isKept_20 (by decide) ?_
  exact ret _ _ _ _ _ _ (rfl) (⟨rfl, rfl⟩) w dX1_isKept_24
set_option maxHeartbeats 4000000 in
set_option maxRecDepth 100000 in
theorem m_kept_n (μ : ST) (x : Int32) (L : Nat) (hL : μ 0 0 = nI L) (hL2 : L < 1000) (hk : ¬ ∃ a, x = nI a ∧ a ≤ L ∧ L < a + 6) : KMi WM tM yX1_isKept cX1_isKept 2 (some .boolean) 1 [.int (x)] μ (fun r σ' => r = nI 0 ∧ σ' = μ) := by
  refine KMi.ofZ (own := RX1) (by decide +kernel) rfl (fun _ => Nat.le_of_ble_eq_true rfl) ?_
  intro p l e s m args below meth c D h ad d A ls Q E w ret hl
  have hx := E.1
  have hb := E.2.1
  have hl : lv_has ls 2 [(0, .ref h), (1, .int (x))] := hl
  rcases (Classical.em (x < 0 ∨ nI L < x)) with g | g
  · refine lv_aload_n hx hb dX1_isKept_0 rfl (lv_at hl 0 rfl) ?_
    refine lv_iload_n hx hb dX1_isKept_1 rfl (lv_at hl 1 rfl) ?_
    refine k_calli (ci := 1) (C := RX1) (T := TX1) (N := 10) (m_ex_n μ x L hL hL2 g) E w q301 q303 qs18 q21 q304 rfl rfl 1 rfl (by decide +kernel) ⟨Nat.le_of_ble_eq_true rfl, Nat.le_of_ble_eq_true rfl⟩ hl.1 rfl (Nat.le_of_ble_eq_true rfl) dX1_isKept_2 ⟨Nat.zero_le _, Nat.zero_le _⟩ (fun r_2 σ_2 H locs hp_2 w => ?_)
    obtain ⟨e1, e2⟩ := hp_2
    rw [e2] at w
    refine g_eq (y := (nI (0))) (e1) ?_
    refine lv_if_eq (tgt := 23) hx hb dX1_isKept_5 (by decide) (fun _ => ?_) (fun hn => absurd (nI_0) hn)
    refine lv_iconst (v := (nI (0))) hx hb dX1_isKept_23 (by decide) ?_
    exact ret _ _ _ _ _ _ (rfl) (⟨rfl, rfl⟩) w dX1_isKept_24
  · obtain ⟨a, ea, ha⟩ := i32_nat hL2 (fun z => g (Or.inl z)) (fun z => g (Or.inr z))
    subst ea
    refine lv_aload_n hx hb dX1_isKept_0 rfl (lv_at hl 0 rfl) ?_
    refine lv_iload_n hx hb dX1_isKept_1 rfl (lv_at hl 1 rfl) ?_
    refine k_calli (ci := 1) (C := RX1) (T := TX1) (N := 10) (m_ex_y μ a L hL hL2 ha) E w q301 q303 qs18 q21 q304 rfl rfl 1 rfl (by decide +kernel) ⟨Nat.le_of_ble_eq_true rfl, Nat.le_of_ble_eq_true rfl⟩ hl.1 rfl (Nat.le_of_ble_eq_true rfl) dX1_isKept_2 ⟨Nat.zero_le _, Nat.zero_le _⟩ (fun r_2 σ_2 H locs hp_2 w => ?_)
    obtain ⟨e1, e2⟩ := hp_2
    rw [e2] at w
    refine g_eq (y := (nI (1))) (e1) ?_
    refine lv_if_eq (tgt := 23) hx hb dX1_isKept_5 (by decide) (fun hn => absurd hn (by decide)) (fun _ => ?_)
    refine lv_iload_n hx hb dX1_isKept_8 rfl (lv_at hl 1 rfl) ?_
    refine lv_aload_n hx hb dX1_isKept_9 rfl (lv_at hl 0 rfl) ?_
    refine m_get (v := .int (μ 0 0)) E w 0 (by decide) q205 rfl dX1_isKept_10 ?_
    refine g_eq (y := (nI (L))) (hL) ?_
    refine lv_bipush (v := (nI (6))) hx hb dX1_isKept_13 (by decide) ?_
    refine lv_isub hx hb dX1_isKept_15 ?_
    refine lv_icmp_le (tgt := 23) hx hb dX1_isKept_16 (by decide) (fun _ => ?_) (fun hn => absurd (kept_y hL2 ha (Nat.le_of_not_lt (fun z => hk ⟨a, rfl, ha, z⟩))) hn)
    refine lv_iconst (v := (nI (0))) hx hb dX1_isKept_23 (by decide) ?_
    exact ret _ _ _ _ _ _ (rfl) (⟨rfl, rfl⟩) w dX1_isKept_24
set_option maxHeartbeats 4000000 in
set_option maxRecDepth 100000 in
theorem m_has_nk (μ : ST) (x k : Int32) (L : Nat) (hL : μ 0 0 = nI L) (hL2 : L < 1000) (hk : ¬ ∃ a, x = nI a ∧ a ≤ L ∧ L < a + 6) : KMi WM tM yX1_has cX1_has 3 (some .boolean) 2 [.int (x), .int (k)] μ (fun r σ' => r = nI 0 ∧ σ' = μ) := by
  refine KMi.ofZ (own := RX1) (by decide +kernel) rfl (fun _ => Nat.le_of_ble_eq_true rfl) ?_
  intro p l e s m args below meth c D h ad d A ls Q E w ret hl
  have hx := E.1
  have hb := E.2.1
  have hl : lv_has ls 3 [(0, .ref h), (1, .int (x)), (2, .int (k))] := hl
  refine lv_aload_n hx hb dX1_has_0 rfl (lv_at hl 0 rfl) ?_
  refine lv_iload_n hx hb dX1_has_1 rfl (lv_at hl 1 rfl) ?_
  refine k_calli (ci := 1) (C := RX1) (T := TX1) (N := 10) (m_kept_n μ x L hL hL2 hk) E w q297 q299 qs17 q21 q300 rfl rfl 1 rfl (by decide +kernel) ⟨Nat.le_of_ble_eq_true rfl, Nat.le_of_ble_eq_true rfl⟩ hl.1 rfl (Nat.le_of_ble_eq_true rfl) dX1_has_2 ⟨Nat.zero_le _, Nat.zero_le _⟩ (fun r_2 σ_2 H locs hp_2 w => ?_)
  obtain ⟨e1, e2⟩ := hp_2
  rw [e2] at w
  refine g_eq (y := (nI (0))) (e1) ?_
  refine lv_if_eq (tgt := 37) hx hb dX1_has_5 (by decide) (fun _ => ?_) (fun hn => absurd (nI_0) hn)
  refine lv_iconst (v := (nI (0))) hx hb dX1_has_37 (by decide) ?_
  exact ret _ _ _ _ _ _ (rfl) (⟨rfl, rfl⟩) w dX1_has_38
set_option maxHeartbeats 4000000 in
set_option maxRecDepth 100000 in
theorem m_has_bk (μ : ST) (a : Nat) (k : Int32) (L : Nat) (hL : μ 0 0 = nI L) (hL2 : L < 1000) (ha : a ≤ L) (ha6 : L < a + 6) (hk : k < 0 ∨ nI 31 < k) : KMi WM tM yX1_has cX1_has 3 (some .boolean) 2 [.int (nI (a)), .int (k)] μ (fun r σ' => r = nI 0 ∧ σ' = μ) := by
  refine KMi.ofZ (own := RX1) (by decide +kernel) rfl (fun _ => Nat.le_of_ble_eq_true rfl) ?_
  intro p l e s m args below meth c D h ad d A ls Q E w ret hl
  have hx := E.1
  have hb := E.2.1
  have hl : lv_has ls 3 [(0, .ref h), (1, .int (nI (a))), (2, .int (k))] := hl
  refine lv_aload_n hx hb dX1_has_0 rfl (lv_at hl 0 rfl) ?_
  refine lv_iload_n hx hb dX1_has_1 rfl (lv_at hl 1 rfl) ?_
  refine k_calli (ci := 1) (C := RX1) (T := TX1) (N := 10) (m_kept_y μ a L hL hL2 ha ha6) E w q297 q299 qs17 q21 q300 rfl rfl 1 rfl (by decide +kernel) ⟨Nat.le_of_ble_eq_true rfl, Nat.le_of_ble_eq_true rfl⟩ hl.1 rfl (Nat.le_of_ble_eq_true rfl) dX1_has_2 ⟨Nat.zero_le _, Nat.zero_le _⟩ (fun r_2 σ_2 H locs hp_2 w => ?_)
  obtain ⟨e1, e2⟩ := hp_2
  rw [e2] at w
  refine g_eq (y := (nI (1))) (e1) ?_
  refine lv_if_eq (tgt := 37) hx hb dX1_has_5 (by decide) (fun hn => absurd hn (by decide)) (fun _ => ?_)
  refine lv_aload_n hx hb dX1_has_8 rfl (lv_at hl 0 rfl) ?_
  refine lv_iload_n hx hb dX1_has_9 rfl (lv_at hl 2 rfl) ?_
  refine k_calli (ci := 1) (C := RX1) (T := TX1) (N := 10) (m_isK_n μ k (hk)) E w q252 q254 qs14 q21 q255 rfl rfl 1 rfl (by decide +kernel) ⟨Nat.le_of_ble_eq_true rfl, Nat.le_of_ble_eq_true rfl⟩ hl.1 rfl (Nat.le_of_ble_eq_true rfl) dX1_has_10 ⟨Nat.zero_le _, Nat.zero_le _⟩ (fun r_10 σ_10 H locs hp_10 w => ?_)
  obtain ⟨e1, e2⟩ := hp_10
  rw [e2] at w
  refine g_eq (y := (nI (0))) (e1) ?_
  refine lv_if_eq (tgt := 37) hx hb dX1_has_13 (by decide) (fun _ => ?_) (fun hn => absurd (nI_0) hn)
  refine lv_iconst (v := (nI (0))) hx hb dX1_has_37 (by decide) ?_
  exact ret _ _ _ _ _ _ (rfl) (⟨rfl, rfl⟩) w dX1_has_38
set_option maxHeartbeats 4000000 in
set_option maxRecDepth 100000 in
theorem m_has (μ : ST) (a k : Nat) (b : Bool) (L : Nat) (hL : μ 0 0 = nI L) (hL2 : L < 1000) (ha : a ≤ L) (ha6 : L < a + 6) (hk : k < 32) (hb1 : μ 1 (32 * (a % 6) + k) = bI b) : KMi WM tM yX1_has cX1_has 3 (some .boolean) 2 [.int (nI (a)), .int (nI (k))] μ (fun r σ' => r = bI b ∧ σ' = μ) := by
  refine KMi.ofZ (own := RX1) (by decide +kernel) rfl (fun _ => Nat.le_of_ble_eq_true rfl) ?_
  intro p l e s m args below meth c D h ad d A ls Q E w ret hl
  have hx := E.1
  have hb := E.2.1
  have hl : lv_has ls 3 [(0, .ref h), (1, .int (nI (a))), (2, .int (nI (k)))] := hl
  have h6 : a % 6 < 6 := Nat.mod_lt _ (by decide)
  refine lv_aload_n hx hb dX1_has_0 rfl (lv_at hl 0 rfl) ?_
  refine lv_iload_n hx hb dX1_has_1 rfl (lv_at hl 1 rfl) ?_
  refine k_calli (ci := 1) (C := RX1) (T := TX1) (N := 10) (m_kept_y μ a L hL hL2 ha ha6) E w q297 q299 qs17 q21 q300 rfl rfl 1 rfl (by decide +kernel) ⟨Nat.le_of_ble_eq_true rfl, Nat.le_of_ble_eq_true rfl⟩ hl.1 rfl (Nat.le_of_ble_eq_true rfl) dX1_has_2 ⟨Nat.zero_le _, Nat.zero_le _⟩ (fun r_2 σ_2 H locs hp_2 w => ?_)
  obtain ⟨e1, e2⟩ := hp_2
  rw [e2] at w
  refine g_eq (y := (nI (1))) (e1) ?_
  refine lv_if_eq (tgt := 37) hx hb dX1_has_5 (by decide) (fun hn => absurd hn (by decide)) (fun _ => ?_)
  refine lv_aload_n hx hb dX1_has_8 rfl (lv_at hl 0 rfl) ?_
  refine lv_iload_n hx hb dX1_has_9 rfl (lv_at hl 2 rfl) ?_
  refine k_calli (ci := 1) (C := RX1) (T := TX1) (N := 10) (m_isK_y μ k hk) E w q252 q254 qs14 q21 q255 rfl rfl 1 rfl (by decide +kernel) ⟨Nat.le_of_ble_eq_true rfl, Nat.le_of_ble_eq_true rfl⟩ hl.1 rfl (Nat.le_of_ble_eq_true rfl) dX1_has_10 ⟨Nat.zero_le _, Nat.zero_le _⟩ (fun r_10 σ_10 H locs hp_10 w => ?_)
  obtain ⟨e1, e2⟩ := hp_10
  rw [e2] at w
  refine g_eq (y := (nI (1))) (e1) ?_
  refine lv_if_eq (tgt := 37) hx hb dX1_has_13 (by decide) (fun hn => absurd hn (by decide)) (fun _ => ?_)
  refine lv_aload_n hx hb dX1_has_16 rfl (lv_at hl 0 rfl) ?_
  refine m_get (v := .ref (ad 1)) E w 1 (by decide) q206 rfl dX1_has_17 ?_
  refine lv_bipush (v := (nI (32))) hx hb dX1_has_20 (by decide) ?_
  refine lv_iload_n hx hb dX1_has_22 rfl (lv_at hl 1 rfl) ?_
  refine lv_bipush (v := (nI (6))) hx hb dX1_has_23 (by decide) ?_
  refine n_irem (by omega) (by decide) (by decide) hx hb dX1_has_25 ?_
  refine n_imul hx hb dX1_has_26 ?_
  refine lv_iload_n hx hb dX1_has_27 rfl (lv_at hl 2 rfl) ?_
  refine n_iadd hx hb dX1_has_28 ?_
  refine g_zald (f := μ 1) E w 1 0 rfl rfl (by omega) (by decide) dX1_has_29 ?_
  refine g_eq (y := (bI b)) (hb1) ?_
  refine lv_if_eq (tgt := 37) hx hb dX1_has_30 (by decide) (fun c1 => ?_) (fun c1 => ?_)
  · refine lv_iconst (v := (nI (0))) hx hb dX1_has_37 (by decide) ?_
    exact ret _ _ _ _ _ _ (rfl) (⟨by rw [bI_eq0.mp c1]; rfl, rfl⟩) w dX1_has_38
  · refine lv_iconst (v := (nI (1))) hx hb dX1_has_33 (by decide) ?_
    refine lv_goto (tgt := 38) hx hb dX1_has_34 (by decide) ?_
    exact ret _ _ _ _ _ _ (rfl) (⟨by rw [bI_ne0 c1]; rfl, rfl⟩) w dX1_has_38
set_option maxHeartbeats 4000000 in
set_option maxRecDepth 100000 in
theorem m_at_nk (μ : ST) (x k : Int32) (L : Nat) (hL : μ 0 0 = nI L) (hL2 : L < 1000) (hk : ¬ ∃ a, x = nI a ∧ a ≤ L ∧ L < a + 6) : KMi WM tM yX1_at cX1_at 3 (some .int) 3 [.int (x), .int (k)] μ (fun r σ' => r = nI 0 ∧ σ' = μ) := by
  refine KMi.ofI (own := RX1) (by decide +kernel) rfl (fun _ => Nat.le_of_ble_eq_true rfl) ?_
  intro p l e s m args below meth c D h ad d A ls Q E w ret hl
  have hx := E.1
  have hb := E.2.1
  have hl : lv_has ls 3 [(0, .ref h), (1, .int (x)), (2, .int (k))] := hl
  refine lv_aload_n hx hb dX1_at_0 rfl (lv_at hl 0 rfl) ?_
  refine lv_iload_n hx hb dX1_at_1 rfl (lv_at hl 1 rfl) ?_
  refine lv_iload_n hx hb dX1_at_2 rfl (lv_at hl 2 rfl) ?_
  refine k_calli (ci := 1) (C := RX1) (T := TX1) (N := 10) (m_has_nk μ x k L hL hL2 hk) E w q309 q294 q295 q21 q296 rfl rfl 2 rfl (by decide +kernel) ⟨Nat.le_of_ble_eq_true rfl, Nat.le_of_ble_eq_true rfl⟩ hl.1 rfl (Nat.le_of_ble_eq_true rfl) dX1_at_3 ⟨Nat.zero_le _, Nat.zero_le _⟩ (fun r_3 σ_3 H locs hp_3 w => ?_)
  obtain ⟨e1, e2⟩ := hp_3
  rw [e2] at w
  refine g_eq (y := (nI (0))) (e1) ?_
  refine lv_if_eq (tgt := 26) hx hb dX1_at_6 (by decide) (fun _ => ?_) (fun hn => absurd (nI_0) hn)
  refine lv_iconst (v := (nI (0))) hx hb dX1_at_26 (by decide) ?_
  exact ret _ _ _ _ _ _ (⟨rfl, rfl⟩) w dX1_at_27
set_option maxHeartbeats 4000000 in
set_option maxRecDepth 100000 in
theorem m_at_bk (μ : ST) (a : Nat) (k : Int32) (L : Nat) (hL : μ 0 0 = nI L) (hL2 : L < 1000) (ha : a ≤ L) (ha6 : L < a + 6) (hk : k < 0 ∨ nI 31 < k) : KMi WM tM yX1_at cX1_at 3 (some .int) 3 [.int (nI (a)), .int (k)] μ (fun r σ' => r = nI 0 ∧ σ' = μ) := by
  refine KMi.ofI (own := RX1) (by decide +kernel) rfl (fun _ => Nat.le_of_ble_eq_true rfl) ?_
  intro p l e s m args below meth c D h ad d A ls Q E w ret hl
  have hx := E.1
  have hb := E.2.1
  have hl : lv_has ls 3 [(0, .ref h), (1, .int (nI (a))), (2, .int (k))] := hl
  refine lv_aload_n hx hb dX1_at_0 rfl (lv_at hl 0 rfl) ?_
  refine lv_iload_n hx hb dX1_at_1 rfl (lv_at hl 1 rfl) ?_
  refine lv_iload_n hx hb dX1_at_2 rfl (lv_at hl 2 rfl) ?_
  refine k_calli (ci := 1) (C := RX1) (T := TX1) (N := 10) (m_has_bk μ a k L hL hL2 ha ha6 hk) E w q309 q294 q295 q21 q296 rfl rfl 2 rfl (by decide +kernel) ⟨Nat.le_of_ble_eq_true rfl, Nat.le_of_ble_eq_true rfl⟩ hl.1 rfl (Nat.le_of_ble_eq_true rfl) dX1_at_3 ⟨Nat.zero_le _, Nat.zero_le _⟩ (fun r_3 σ_3 H locs hp_3 w => ?_)
  obtain ⟨e1, e2⟩ := hp_3
  rw [e2] at w
  refine g_eq (y := (nI (0))) (e1) ?_
  refine lv_if_eq (tgt := 26) hx hb dX1_at_6 (by decide) (fun _ => ?_) (fun hn => absurd (nI_0) hn)
  refine lv_iconst (v := (nI (0))) hx hb dX1_at_26 (by decide) ?_
  exact ret _ _ _ _ _ _ (⟨rfl, rfl⟩) w dX1_at_27
set_option maxHeartbeats 4000000 in
set_option maxRecDepth 100000 in
theorem m_at (μ : ST) (a k : Nat) (b : Bool) (L : Nat) (hL : μ 0 0 = nI L) (hL2 : L < 1000) (ha : a ≤ L) (ha6 : L < a + 6) (hk : k < 32) (hb1 : μ 1 (32 * (a % 6) + k) = bI b) : KMi WM tM yX1_at cX1_at 3 (some .int) 3 [.int (nI (a)), .int (nI (k))] μ (fun r σ' => r = (if b then μ 2 (32 * (a % 6) + k) else 0) ∧ σ' = μ) := by
  refine KMi.ofI (own := RX1) (by decide +kernel) rfl (fun _ => Nat.le_of_ble_eq_true rfl) ?_
  intro p l e s m args below meth c D h ad d A ls Q E w ret hl
  have hx := E.1
  have hb := E.2.1
  have hl : lv_has ls 3 [(0, .ref h), (1, .int (nI (a))), (2, .int (nI (k)))] := hl
  have h6 : a % 6 < 6 := Nat.mod_lt _ (by decide)
  refine lv_aload_n hx hb dX1_at_0 rfl (lv_at hl 0 rfl) ?_
  refine lv_iload_n hx hb dX1_at_1 rfl (lv_at hl 1 rfl) ?_
  refine lv_iload_n hx hb dX1_at_2 rfl (lv_at hl 2 rfl) ?_
  refine k_calli (ci := 1) (C := RX1) (T := TX1) (N := 10) (m_has μ a k b L hL hL2 ha ha6 hk hb1) E w q309 q294 q295 q21 q296 rfl rfl 2 rfl (by decide +kernel) ⟨Nat.le_of_ble_eq_true rfl, Nat.le_of_ble_eq_true rfl⟩ hl.1 rfl (Nat.le_of_ble_eq_true rfl) dX1_at_3 ⟨Nat.zero_le _, Nat.zero_le _⟩ (fun r_3 σ_3 H locs hp_3 w => ?_)
  obtain ⟨e1, e2⟩ := hp_3
  rw [e2] at w
  refine g_eq (y := (bI b)) (e1) ?_
  refine lv_if_eq (tgt := 26) hx hb dX1_at_6 (by decide) (fun c1 => ?_) (fun c1 => ?_)
  · refine lv_iconst (v := (nI (0))) hx hb dX1_at_26 (by decide) ?_
    exact ret _ _ _ _ _ _ (⟨by rw [bI_eq0.mp c1]; rfl, rfl⟩) w dX1_at_27
  · refine lv_aload_n hx hb dX1_at_9 rfl (lv_at hl 0 rfl) ?_
    refine m_get (v := .ref (ad 2)) E w 2 (by decide) q207 rfl dX1_at_10 ?_
    refine lv_bipush (v := (nI (32))) hx hb dX1_at_13 (by decide) ?_
    refine lv_iload_n hx hb dX1_at_15 rfl (lv_at hl 1 rfl) ?_
    refine lv_bipush (v := (nI (6))) hx hb dX1_at_16 (by decide) ?_
    refine n_irem (by omega) (by decide) (by decide) hx hb dX1_at_18 ?_
    refine n_imul hx hb dX1_at_19 ?_
    refine lv_iload_n hx hb dX1_at_20 rfl (lv_at hl 2 rfl) ?_
    refine n_iadd hx hb dX1_at_21 ?_
    refine g_iald (f := μ 2) E w 2 1 rfl rfl (by omega) (by decide) dX1_at_22 ?_
    refine lv_goto (tgt := 27) hx hb dX1_at_23 (by decide) ?_
    exact ret _ _ _ _ _ _ (⟨by rw [bI_ne0 c1]; rfl, rfl⟩) w dX1_at_27
set_option maxHeartbeats 4000000 in
set_option maxRecDepth 100000 in
theorem m_size_bad (μ : ST) (x : Int32) (L : Nat) (hL : μ 0 0 = nI L) (hL2 : L < 1000) (hbad : x < 0 ∨ nI L < x) : KMi WM tM yX1_size cX1_size 4 (some .int) 3 [.int (x)] μ (fun r σ' => r = -1 ∧ σ' = μ) := by
  refine KMi.ofI (own := RX1) (by decide +kernel) rfl (fun _ => Nat.le_of_ble_eq_true rfl) ?_
  intro p l e s m args below meth c D h ad d A ls Q E w ret hl
  have hx := E.1
  have hb := E.2.1
  have hl : lv_has ls 4 [(0, .ref h), (1, .int (x))] := hl
  refine lv_aload_n hx hb dX1_size_0 rfl (lv_at hl 0 rfl) ?_
  refine lv_iload_n hx hb dX1_size_1 rfl (lv_at hl 1 rfl) ?_
  refine k_calli (ci := 1) (C := RX1) (T := TX1) (N := 10) (m_ex_n μ x L hL hL2 hbad) E w q301 q303 qs18 q21 q304 rfl rfl 1 rfl (by decide +kernel) ⟨Nat.le_of_ble_eq_true rfl, Nat.le_of_ble_eq_true rfl⟩ hl.1 rfl (Nat.le_of_ble_eq_true rfl) dX1_size_2 ⟨Nat.zero_le _, Nat.zero_le _⟩ (fun r_2 σ_2 H locs hp_2 w => ?_)
  obtain ⟨e1, e2⟩ := hp_2
  rw [e2] at w
  refine g_eq (y := (nI (0))) (e1) ?_
  refine lv_if_ne (tgt := 10) hx hb dX1_size_5 (by decide) (fun hn => absurd hn (fun z => z nI_0)) (fun _ => ?_)
  refine lv_iconst (v := (-1)) hx hb dX1_size_8 (by decide) ?_
  exact ret _ _ _ _ _ _ (⟨rfl, rfl⟩) w dX1_size_9
set_option maxHeartbeats 4000000 in
set_option maxRecDepth 100000 in
theorem m_size_gone (μ : ST) (a : Nat) (L : Nat) (hL : μ 0 0 = nI L) (hL2 : L < 1000) (ha : a + 6 ≤ L) : KMi WM tM yX1_size cX1_size 4 (some .int) 3 [.int (nI (a))] μ (fun r σ' => r = -6 ∧ σ' = μ) := by
  refine KMi.ofI (own := RX1) (by decide +kernel) rfl (fun _ => Nat.le_of_ble_eq_true rfl) ?_
  intro p l e s m args below meth c D h ad d A ls Q E w ret hl
  have hx := E.1
  have hb := E.2.1
  have hl : lv_has ls 4 [(0, .ref h), (1, .int (nI (a)))] := hl
  have hk : ¬ ∃ b, nI a = nI b ∧ b ≤ L ∧ L < b + 6 := fun ⟨b, z1, z2, z3⟩ => by have z4 := nI_inj (by omega) (by omega) z1; omega
  refine lv_aload_n hx hb dX1_size_0 rfl (lv_at hl 0 rfl) ?_
  refine lv_iload_n hx hb dX1_size_1 rfl (lv_at hl 1 rfl) ?_
  refine k_calli (ci := 1) (C := RX1) (T := TX1) (N := 10) (m_ex_y μ a L hL hL2 (by omega)) E w q301 q303 qs18 q21 q304 rfl rfl 1 rfl (by decide +kernel) ⟨Nat.le_of_ble_eq_true rfl, Nat.le_of_ble_eq_true rfl⟩ hl.1 rfl (Nat.le_of_ble_eq_true rfl) dX1_size_2 ⟨Nat.zero_le _, Nat.zero_le _⟩ (fun r_2 σ_2 H locs hp_2 w => ?_)
  obtain ⟨e1, e2⟩ := hp_2
  rw [e2] at w
  refine g_eq (y := (nI (1))) (e1) ?_
  refine lv_if_ne (tgt := 10) hx hb dX1_size_5 (by decide) (fun _ => ?_) (fun hn => absurd hn (by decide))
  refine lv_aload_n hx hb dX1_size_10 rfl (lv_at hl 0 rfl) ?_
  refine lv_iload_n hx hb dX1_size_11 rfl (lv_at hl 1 rfl) ?_
  refine k_calli (ci := 1) (C := RX1) (T := TX1) (N := 10) (m_kept_n μ (nI a) L hL hL2 hk) E w q297 q299 qs17 q21 q300 rfl rfl 1 rfl (by decide +kernel) ⟨Nat.le_of_ble_eq_true rfl, Nat.le_of_ble_eq_true rfl⟩ hl.1 rfl (Nat.le_of_ble_eq_true rfl) dX1_size_12 ⟨Nat.zero_le _, Nat.zero_le _⟩ (fun r_12 σ_12 H locs hp_12 w => ?_)
  obtain ⟨e1, e2⟩ := hp_12
  rw [e2] at w
  refine g_eq (y := (nI (0))) (e1) ?_
  refine lv_if_ne (tgt := 21) hx hb dX1_size_15 (by decide) (fun hn => absurd hn (fun z => z nI_0)) (fun _ => ?_)
  refine lv_bipush (v := (-6)) hx hb dX1_size_18 (by decide) ?_
  exact ret _ _ _ _ _ _ (⟨rfl, rfl⟩) w dX1_size_20
set_option maxHeartbeats 4000000 in
set_option maxRecDepth 100000 in
theorem m_size (μ : ST) (a : Nat) (f : Nat → Bool) (L : Nat) (hL : μ 0 0 = nI L) (hL2 : L < 1000) (ha : a ≤ L) (ha6 : L < a + 6) (hf : ∀ k, k < 32 → μ 1 (32 * (a % 6) + k) = bI (f k)) : KMi WM tM yX1_size cX1_size 4 (some .int) 3 [.int (nI (a))] μ (fun r σ' => r = nI (fb_ct f 32) ∧ σ' = μ) := by
  refine KMi.ofI (own := RX1) (by decide +kernel) rfl (fun _ => Nat.le_of_ble_eq_true rfl) ?_
  intro p l e s m args below meth c D h ad d A ls Q E w ret hl
  have hx := E.1
  have hb := E.2.1
  have hl : lv_has ls 4 [(0, .ref h), (1, .int (nI (a)))] := hl
  refine lv_aload_n hx hb dX1_size_0 rfl (lv_at hl 0 rfl) ?_
  refine lv_iload_n hx hb dX1_size_1 rfl (lv_at hl 1 rfl) ?_
  refine k_calli (ci := 1) (C := RX1) (T := TX1) (N := 10) (m_ex_y μ a L hL hL2 ha) E w q301 q303 qs18 q21 q304 rfl rfl 1 rfl (by decide +kernel) ⟨Nat.le_of_ble_eq_true rfl, Nat.le_of_ble_eq_true rfl⟩ hl.1 rfl (Nat.le_of_ble_eq_true rfl) dX1_size_2 ⟨Nat.zero_le _, Nat.zero_le _⟩ (fun r_2 σ_2 H locs hp_2 w => ?_)
  obtain ⟨e1, e2⟩ := hp_2
  rw [e2] at w
  refine g_eq (y := (nI (1))) (e1) ?_
  refine lv_if_ne (tgt := 10) hx hb dX1_size_5 (by decide) (fun _ => ?_) (fun hn => absurd hn (by decide))
  refine lv_aload_n hx hb dX1_size_10 rfl (lv_at hl 0 rfl) ?_
  refine lv_iload_n hx hb dX1_size_11 rfl (lv_at hl 1 rfl) ?_
  refine k_calli (ci := 1) (C := RX1) (T := TX1) (N := 10) (m_kept_y μ a L hL hL2 ha ha6) E w q297 q299 qs17 q21 q300 rfl rfl 1 rfl (by decide +kernel) ⟨Nat.le_of_ble_eq_true rfl, Nat.le_of_ble_eq_true rfl⟩ hl.1 rfl (Nat.le_of_ble_eq_true rfl) dX1_size_12 ⟨Nat.zero_le _, Nat.zero_le _⟩ (fun r_12 σ_12 H locs hp_12 w => ?_)
  obtain ⟨e1, e2⟩ := hp_12
  rw [e2] at w
  refine g_eq (y := (nI (1))) (e1) ?_
  refine lv_if_ne (tgt := 21) hx hb dX1_size_15 (by decide) (fun _ => ?_) (fun hn => absurd hn (by decide))
  refine lv_iconst (v := (nI (0))) hx hb dX1_size_21 (by decide) ?_
  refine lv_istore_n (lv' := [(2, .int (nI (0))), (0, .ref h), (1, .int (nI (a)))]) hx hb dX1_size_22 rfl hl (by decide) rfl (fun ls hl => ?_)
  refine lv_iconst (v := (nI (0))) hx hb dX1_size_23 (by decide) ?_
  refine lv_istore_n (lv' := [(3, .int (nI (0))), (2, .int (nI (0))), (0, .ref h), (1, .int (nI (a)))]) hx hb dX1_size_24 rfl hl (by decide) rfl (fun ls hl => ?_)
  have loop : ∀ (u q : Nat), q + u = 32 → ∀ (H : Heap) (locs : List Loc) (ls : Array Slot), GW D A s.heap s (tM d) (WM h ad d μ) H locs → lv_has ls 4 [(3, .int (nI (q))), (2, .int (nI (fb_ct f q))), (0, .ref h), (1, .int (nI (a)))] → W p l e (rm 3) s m args below meth c H locs 0 0 Q (F0 m 25 ls []) := by
    intro u
    induction u with
    | zero =>
      intro q hq H locs ls w hl
      refine lv_iload_n hx hb dX1_size_25 rfl (lv_at hl 0 rfl) ?_
      refine lv_bipush (v := (nI (32))) hx hb dX1_size_26 (by decide) ?_
      refine lv_icmp_ge (tgt := 49) hx hb dX1_size_28 (by decide) (fun _ => ?_) (fun hn => absurd (nI_le (by omega) (by omega)) hn)
      refine lv_iload_n hx hb dX1_size_49 rfl (lv_at hl 1 rfl) ?_
      exact ret _ _ _ _ _ _ (⟨by rw [show q = 32 by omega], rfl⟩) w dX1_size_50
    | succ u ih =>
      intro q hq H locs ls w hl
      refine lv_iload_n hx hb dX1_size_25 rfl (lv_at hl 0 rfl) ?_
      refine lv_bipush (v := (nI (32))) hx hb dX1_size_26 (by decide) ?_
      refine lv_icmp_ge (tgt := 49) hx hb dX1_size_28 (by decide) (fun hn => absurd hn (nI_ge (by omega) (by omega))) (fun _ => ?_)
      refine lv_aload_n hx hb dX1_size_31 rfl (lv_at hl 2 rfl) ?_
      refine lv_iload_n hx hb dX1_size_32 rfl (lv_at hl 3 rfl) ?_
      refine lv_iload_n hx hb dX1_size_33 rfl (lv_at hl 0 rfl) ?_
      refine k_calli (ci := 1) (C := RX1) (T := TX1) (N := 10) (m_has μ a q (f q) L hL hL2 ha ha6 (by omega) (hf q (by omega))) E w q309 q294 q295 q21 q296 rfl rfl 2 rfl (by decide +kernel) ⟨Nat.le_of_ble_eq_true rfl, Nat.le_of_ble_eq_true rfl⟩ hl.1 rfl (Nat.le_of_ble_eq_true rfl) dX1_size_34 ⟨Nat.zero_le _, Nat.zero_le _⟩ (fun r_34 σ_34 H locs hp_34 w => ?_)
      obtain ⟨e1, e2⟩ := hp_34
      rw [e2] at w
      refine g_eq (y := (bI (f q))) (e1) ?_
      refine lv_if_eq (tgt := 43) hx hb dX1_size_37 (by decide) (fun c1 => ?_) (fun c1 => ?_)
      · refine lv_iinc (v := (nI (q + 1))) (lv' := [(3, .int (nI (q + 1))), (2, .int (nI (fb_ct f q))), (0, .ref h), (1, .int (nI (a)))]) hx hb dX1_size_43 hl (k := 0) rfl (nI_1 (q)) (by decide) rfl (fun ls hl => ?_)
        refine lv_goto (tgt := 25) hx hb dX1_size_46 (by decide) ?_
        have hc : fb_ct f (q + 1) = fb_ct f q := by rw [fb_ct_succ, bI_eq0.mp c1]; rfl
        rw [← hc] at hl
        exact ih (q + 1) (by omega) H locs ls w hl
      · refine lv_iinc (v := (nI (fb_ct f q + 1))) (lv' := [(2, .int (nI (fb_ct f q + 1))), (3, .int (nI (q))), (0, .ref h), (1, .int (nI (a)))]) hx hb dX1_size_40 hl (k := 1) rfl (nI_1 (fb_ct f q)) (by decide) rfl (fun ls hl => ?_)
        refine lv_iinc (v := (nI (q + 1))) (lv' := [(3, .int (nI (q + 1))), (2, .int (nI (fb_ct f q + 1))), (0, .ref h), (1, .int (nI (a)))]) hx hb dX1_size_43 hl (k := 1) rfl (nI_1 (q)) (by decide) rfl (fun ls hl => ?_)
        refine lv_goto (tgt := 25) hx hb dX1_size_46 (by decide) ?_
        have hc : fb_ct f (q + 1) = fb_ct f q + 1 := by rw [fb_ct_succ, bI_ne0 c1]; rfl
        rw [← hc] at hl
        exact ih (q + 1) (by omega) H locs ls w hl
  exact loop 32 0 (by omega) H locs ls w hl
set_option maxHeartbeats 4000000 in
set_option maxRecDepth 100000 in
theorem m_changed_bads (μ : ST) (x y : Int32) (L : Nat) (hL : μ 0 0 = nI L) (hL2 : L < 1000) (hbad : x < 0 ∨ nI L < x) : KMi WM tM yX1_changed cX1_changed 5 (some .int) 2 [.int (x), .int (y)] μ (fun r σ' => r = -1 ∧ σ' = μ) := by
  refine KMi.ofI (own := RX1) (by decide +kernel) rfl (fun _ => Nat.le_of_ble_eq_true rfl) ?_
  intro p l e s m args below meth c D h ad d A ls Q E w ret hl
  have hx := E.1
  have hb := E.2.1
  have hl : lv_has ls 5 [(0, .ref h), (1, .int (x)), (2, .int (y))] := hl
  refine lv_aload_n hx hb dX1_changed_0 rfl (lv_at hl 0 rfl) ?_
  refine lv_iload_n hx hb dX1_changed_1 rfl (lv_at hl 1 rfl) ?_
  refine k_calli (ci := 1) (C := RX1) (T := TX1) (N := 10) (m_ex_n μ x L hL hL2 hbad) E w q301 q303 qs18 q21 q304 rfl rfl 1 rfl (by decide +kernel) ⟨Nat.le_of_ble_eq_true rfl, Nat.le_of_ble_eq_true rfl⟩ hl.1 rfl (Nat.le_of_ble_eq_true rfl) dX1_changed_2 ⟨Nat.zero_le _, Nat.zero_le _⟩ (fun r_2 σ_2 H locs hp_2 w => ?_)
  obtain ⟨e1, e2⟩ := hp_2
  rw [e2] at w
  refine g_eq (y := (nI (0))) (e1) ?_
  refine lv_if_eq (tgt := 21) hx hb dX1_changed_5 (by decide) (fun _ => ?_) (fun hn => absurd (nI_0) hn)
  refine lv_iconst (v := (-1)) hx hb dX1_changed_21 (by decide) ?_
  exact ret _ _ _ _ _ _ (⟨rfl, rfl⟩) w dX1_changed_22
set_option maxHeartbeats 4000000 in
set_option maxRecDepth 100000 in
theorem m_changed_badt (μ : ST) (a : Nat) (y : Int32) (L : Nat) (hL : μ 0 0 = nI L) (hL2 : L < 1000) (ha : a ≤ L) (hbad : y < 0 ∨ nI L < y) : KMi WM tM yX1_changed cX1_changed 5 (some .int) 2 [.int (nI (a)), .int (y)] μ (fun r σ' => r = -1 ∧ σ' = μ) := by
  refine KMi.ofI (own := RX1) (by decide +kernel) rfl (fun _ => Nat.le_of_ble_eq_true rfl) ?_
  intro p l e s m args below meth c D h ad d A ls Q E w ret hl
  have hx := E.1
  have hb := E.2.1
  have hl : lv_has ls 5 [(0, .ref h), (1, .int (nI (a))), (2, .int (y))] := hl
  refine lv_aload_n hx hb dX1_changed_0 rfl (lv_at hl 0 rfl) ?_
  refine lv_iload_n hx hb dX1_changed_1 rfl (lv_at hl 1 rfl) ?_
  refine k_calli (ci := 1) (C := RX1) (T := TX1) (N := 10) (m_ex_y μ a L hL hL2 ha) E w q301 q303 qs18 q21 q304 rfl rfl 1 rfl (by decide +kernel) ⟨Nat.le_of_ble_eq_true rfl, Nat.le_of_ble_eq_true rfl⟩ hl.1 rfl (Nat.le_of_ble_eq_true rfl) dX1_changed_2 ⟨Nat.zero_le _, Nat.zero_le _⟩ (fun r_2 σ_2 H locs hp_2 w => ?_)
  obtain ⟨e1, e2⟩ := hp_2
  rw [e2] at w
  refine g_eq (y := (nI (1))) (e1) ?_
  refine lv_if_eq (tgt := 21) hx hb dX1_changed_5 (by decide) (fun hn => absurd hn (by decide)) (fun _ => ?_)
  refine lv_aload_n hx hb dX1_changed_8 rfl (lv_at hl 0 rfl) ?_
  refine lv_iload_n hx hb dX1_changed_9 rfl (lv_at hl 2 rfl) ?_
  refine k_calli (ci := 1) (C := RX1) (T := TX1) (N := 10) (m_ex_n μ y L hL hL2 hbad) E w q301 q303 qs18 q21 q304 rfl rfl 1 rfl (by decide +kernel) ⟨Nat.le_of_ble_eq_true rfl, Nat.le_of_ble_eq_true rfl⟩ hl.1 rfl (Nat.le_of_ble_eq_true rfl) dX1_changed_10 ⟨Nat.zero_le _, Nat.zero_le _⟩ (fun r_10 σ_10 H locs hp_10 w => ?_)
  obtain ⟨e1, e2⟩ := hp_10
  rw [e2] at w
  refine g_eq (y := (nI (0))) (e1) ?_
  refine lv_if_eq (tgt := 21) hx hb dX1_changed_13 (by decide) (fun _ => ?_) (fun hn => absurd (nI_0) hn)
  refine lv_iconst (v := (-1)) hx hb dX1_changed_21 (by decide) ?_
  exact ret _ _ _ _ _ _ (⟨rfl, rfl⟩) w dX1_changed_22
set_option maxHeartbeats 4000000 in
set_option maxRecDepth 100000 in
theorem m_changed_ge (μ : ST) (a b : Nat) (L : Nat) (hL : μ 0 0 = nI L) (hL2 : L < 1000) (ha : a ≤ L) (hb0 : b ≤ L) (hba : b ≤ a) : KMi WM tM yX1_changed cX1_changed 5 (some .int) 2 [.int (nI (a)), .int (nI (b))] μ (fun r σ' => r = -1 ∧ σ' = μ) := by
  refine KMi.ofI (own := RX1) (by decide +kernel) rfl (fun _ => Nat.le_of_ble_eq_true rfl) ?_
  intro p l e s m args below meth c D h ad d A ls Q E w ret hl
  have hx := E.1
  have hb := E.2.1
  have hl : lv_has ls 5 [(0, .ref h), (1, .int (nI (a))), (2, .int (nI (b)))] := hl
  refine lv_aload_n hx hb dX1_changed_0 rfl (lv_at hl 0 rfl) ?_
  refine lv_iload_n hx hb dX1_changed_1 rfl (lv_at hl 1 rfl) ?_
  refine k_calli (ci := 1) (C := RX1) (T := TX1) (N := 10) (m_ex_y μ a L hL hL2 (by omega)) E w q301 q303 qs18 q21 q304 rfl rfl 1 rfl (by decide +kernel) ⟨Nat.le_of_ble_eq_true rfl, Nat.le_of_ble_eq_true rfl⟩ hl.1 rfl (Nat.le_of_ble_eq_true rfl) dX1_changed_2 ⟨Nat.zero_le _, Nat.zero_le _⟩ (fun r_2 σ_2 H locs hp_2 w => ?_)
  obtain ⟨e1, e2⟩ := hp_2
  rw [e2] at w
  refine g_eq (y := (nI (1))) (e1) ?_
  refine lv_if_eq (tgt := 21) hx hb dX1_changed_5 (by decide) (fun hn => absurd hn (by decide)) (fun _ => ?_)
  refine lv_aload_n hx hb dX1_changed_8 rfl (lv_at hl 0 rfl) ?_
  refine lv_iload_n hx hb dX1_changed_9 rfl (lv_at hl 2 rfl) ?_
  refine k_calli (ci := 1) (C := RX1) (T := TX1) (N := 10) (m_ex_y μ b L hL hL2 hb0) E w q301 q303 qs18 q21 q304 rfl rfl 1 rfl (by decide +kernel) ⟨Nat.le_of_ble_eq_true rfl, Nat.le_of_ble_eq_true rfl⟩ hl.1 rfl (Nat.le_of_ble_eq_true rfl) dX1_changed_10 ⟨Nat.zero_le _, Nat.zero_le _⟩ (fun r_10 σ_10 H locs hp_10 w => ?_)
  obtain ⟨e1, e2⟩ := hp_10
  rw [e2] at w
  refine g_eq (y := (nI (1))) (e1) ?_
  refine lv_if_eq (tgt := 21) hx hb dX1_changed_13 (by decide) (fun hn => absurd hn (by decide)) (fun _ => ?_)
  refine lv_iload_n hx hb dX1_changed_16 rfl (lv_at hl 1 rfl) ?_
  refine lv_iload_n hx hb dX1_changed_17 rfl (lv_at hl 2 rfl) ?_
  refine lv_icmp_lt (tgt := 23) hx hb dX1_changed_18 (by decide) (fun hn => absurd hn (nI_nlt hba (by omega))) (fun _ => ?_)
  refine lv_iconst (v := (-1)) hx hb dX1_changed_21 (by decide) ?_
  exact ret _ _ _ _ _ _ (⟨rfl, rfl⟩) w dX1_changed_22
set_option maxHeartbeats 4000000 in
set_option maxRecDepth 100000 in
theorem m_changed_gone (μ : ST) (a b : Nat) (L : Nat) (hL : μ 0 0 = nI L) (hL2 : L < 1000) (hab : a < b) (hbL : b ≤ L) (ha : a + 6 ≤ L) : KMi WM tM yX1_changed cX1_changed 5 (some .int) 2 [.int (nI (a)), .int (nI (b))] μ (fun r σ' => r = -6 ∧ σ' = μ) := by
  refine KMi.ofI (own := RX1) (by decide +kernel) rfl (fun _ => Nat.le_of_ble_eq_true rfl) ?_
  intro p l e s m args below meth c D h ad d A ls Q E w ret hl
  have hx := E.1
  have hb := E.2.1
  have hl : lv_has ls 5 [(0, .ref h), (1, .int (nI (a))), (2, .int (nI (b)))] := hl
  have hk : ¬ ∃ b, nI a = nI b ∧ b ≤ L ∧ L < b + 6 := fun ⟨b, z1, z2, z3⟩ => by have z4 := nI_inj (by omega) (by omega) z1; omega
  refine lv_aload_n hx hb dX1_changed_0 rfl (lv_at hl 0 rfl) ?_
  refine lv_iload_n hx hb dX1_changed_1 rfl (lv_at hl 1 rfl) ?_
  refine k_calli (ci := 1) (C := RX1) (T := TX1) (N := 10) (m_ex_y μ a L hL hL2 (by omega)) E w q301 q303 qs18 q21 q304 rfl rfl 1 rfl (by decide +kernel) ⟨Nat.le_of_ble_eq_true rfl, Nat.le_of_ble_eq_true rfl⟩ hl.1 rfl (Nat.le_of_ble_eq_true rfl) dX1_changed_2 ⟨Nat.zero_le _, Nat.zero_le _⟩ (fun r_2 σ_2 H locs hp_2 w => ?_)
  obtain ⟨e1, e2⟩ := hp_2
  rw [e2] at w
  refine g_eq (y := (nI (1))) (e1) ?_
  refine lv_if_eq (tgt := 21) hx hb dX1_changed_5 (by decide) (fun hn => absurd hn (by decide)) (fun _ => ?_)
  refine lv_aload_n hx hb dX1_changed_8 rfl (lv_at hl 0 rfl) ?_
  refine lv_iload_n hx hb dX1_changed_9 rfl (lv_at hl 2 rfl) ?_
  refine k_calli (ci := 1) (C := RX1) (T := TX1) (N := 10) (m_ex_y μ b L hL hL2 hbL) E w q301 q303 qs18 q21 q304 rfl rfl 1 rfl (by decide +kernel) ⟨Nat.le_of_ble_eq_true rfl, Nat.le_of_ble_eq_true rfl⟩ hl.1 rfl (Nat.le_of_ble_eq_true rfl) dX1_changed_10 ⟨Nat.zero_le _, Nat.zero_le _⟩ (fun r_10 σ_10 H locs hp_10 w => ?_)
  obtain ⟨e1, e2⟩ := hp_10
  rw [e2] at w
  refine g_eq (y := (nI (1))) (e1) ?_
  refine lv_if_eq (tgt := 21) hx hb dX1_changed_13 (by decide) (fun hn => absurd hn (by decide)) (fun _ => ?_)
  refine lv_iload_n hx hb dX1_changed_16 rfl (lv_at hl 1 rfl) ?_
  refine lv_iload_n hx hb dX1_changed_17 rfl (lv_at hl 2 rfl) ?_
  refine lv_icmp_lt (tgt := 23) hx hb dX1_changed_18 (by decide) (fun _ => ?_) (fun hn => absurd (nI_lt hab (by omega)) hn)
  refine lv_aload_n hx hb dX1_changed_23 rfl (lv_at hl 0 rfl) ?_
  refine lv_iload_n hx hb dX1_changed_24 rfl (lv_at hl 1 rfl) ?_
  refine k_calli (ci := 1) (C := RX1) (T := TX1) (N := 10) (m_kept_n μ (nI a) L hL hL2 hk) E w q297 q299 qs17 q21 q300 rfl rfl 1 rfl (by decide +kernel) ⟨Nat.le_of_ble_eq_true rfl, Nat.le_of_ble_eq_true rfl⟩ hl.1 rfl (Nat.le_of_ble_eq_true rfl) dX1_changed_25 ⟨Nat.zero_le _, Nat.zero_le _⟩ (fun r_25 σ_25 H locs hp_25 w => ?_)
  obtain ⟨e1, e2⟩ := hp_25
  rw [e2] at w
  refine g_eq (y := (nI (0))) (e1) ?_
  refine lv_if_eq (tgt := 39) hx hb dX1_changed_28 (by decide) (fun _ => ?_) (fun hn => absurd (nI_0) hn)
  refine lv_bipush (v := (-6)) hx hb dX1_changed_39 (by decide) ?_
  exact ret _ _ _ _ _ _ (⟨rfl, rfl⟩) w dX1_changed_41
set_option maxHeartbeats 4000000 in
set_option maxRecDepth 100000 in
theorem m_changed (μ : ST) (a b : Nat) (L : Nat) (hL : μ 0 0 = nI L) (hL2 : L < 1000) (hab : a < b) (hbL : b ≤ L) (ha : L < a + 6) : KMi WM tM yX1_changed cX1_changed 5 (some .int) 2 [.int (nI (a)), .int (nI (b))] μ (fun r σ' => r = nI (fb_ct (bt (ors (μ 3) a (b - a))) 32) ∧ σ' = μ) := by
  refine KMi.ofI (own := RX1) (by decide +kernel) rfl (fun _ => Nat.le_of_ble_eq_true rfl) ?_
  intro p l e s m args below meth c D h ad d A ls Q E w ret hl
  have hx := E.1
  have hb := E.2.1
  have hl : lv_has ls 5 [(0, .ref h), (1, .int (nI (a))), (2, .int (nI (b)))] := hl
  refine lv_aload_n hx hb dX1_changed_0 rfl (lv_at hl 0 rfl) ?_
  refine lv_iload_n hx hb dX1_changed_1 rfl (lv_at hl 1 rfl) ?_
  refine k_calli (ci := 1) (C := RX1) (T := TX1) (N := 10) (m_ex_y μ a L hL hL2 (by omega)) E w q301 q303 qs18 q21 q304 rfl rfl 1 rfl (by decide +kernel) ⟨Nat.le_of_ble_eq_true rfl, Nat.le_of_ble_eq_true rfl⟩ hl.1 rfl (Nat.le_of_ble_eq_true rfl) dX1_changed_2 ⟨Nat.zero_le _, Nat.zero_le _⟩ (fun r_2 σ_2 H locs hp_2 w => ?_)
  obtain ⟨e1, e2⟩ := hp_2
  rw [e2] at w
  refine g_eq (y := (nI (1))) (e1) ?_
  refine lv_if_eq (tgt := 21) hx hb dX1_changed_5 (by decide) (fun hn => absurd hn (by decide)) (fun _ => ?_)
  refine lv_aload_n hx hb dX1_changed_8 rfl (lv_at hl 0 rfl) ?_
  refine lv_iload_n hx hb dX1_changed_9 rfl (lv_at hl 2 rfl) ?_
  refine k_calli (ci := 1) (C := RX1) (T := TX1) (N := 10) (m_ex_y μ b L hL hL2 hbL) E w q301 q303 qs18 q21 q304 rfl rfl 1 rfl (by decide +kernel) ⟨Nat.le_of_ble_eq_true rfl, Nat.le_of_ble_eq_true rfl⟩ hl.1 rfl (Nat.le_of_ble_eq_true rfl) dX1_changed_10 ⟨Nat.zero_le _, Nat.zero_le _⟩ (fun r_10 σ_10 H locs hp_10 w => ?_)
  obtain ⟨e1, e2⟩ := hp_10
  rw [e2] at w
  refine g_eq (y := (nI (1))) (e1) ?_
  refine lv_if_eq (tgt := 21) hx hb dX1_changed_13 (by decide) (fun hn => absurd hn (by decide)) (fun _ => ?_)
  refine lv_iload_n hx hb dX1_changed_16 rfl (lv_at hl 1 rfl) ?_
  refine lv_iload_n hx hb dX1_changed_17 rfl (lv_at hl 2 rfl) ?_
  refine lv_icmp_lt (tgt := 23) hx hb dX1_changed_18 (by decide) (fun _ => ?_) (fun hn => absurd (nI_lt hab (by omega)) hn)
  refine lv_aload_n hx hb dX1_changed_23 rfl (lv_at hl 0 rfl) ?_
  refine lv_iload_n hx hb dX1_changed_24 rfl (lv_at hl 1 rfl) ?_
  refine k_calli (ci := 1) (C := RX1) (T := TX1) (N := 10) (m_kept_y μ a L hL hL2 (by omega) ha) E w q297 q299 qs17 q21 q300 rfl rfl 1 rfl (by decide +kernel) ⟨Nat.le_of_ble_eq_true rfl, Nat.le_of_ble_eq_true rfl⟩ hl.1 rfl (Nat.le_of_ble_eq_true rfl) dX1_changed_25 ⟨Nat.zero_le _, Nat.zero_le _⟩ (fun r_25 σ_25 H locs hp_25 w => ?_)
  obtain ⟨e1, e2⟩ := hp_25
  rw [e2] at w
  refine g_eq (y := (nI (1))) (e1) ?_
  refine lv_if_eq (tgt := 39) hx hb dX1_changed_28 (by decide) (fun hn => absurd hn (by decide)) (fun _ => ?_)
  refine lv_aload_n hx hb dX1_changed_31 rfl (lv_at hl 0 rfl) ?_
  refine lv_iload_n hx hb dX1_changed_32 rfl (lv_at hl 2 rfl) ?_
  refine k_calli (ci := 1) (C := RX1) (T := TX1) (N := 10) (m_kept_y μ b L hL hL2 hbL (by omega)) E w q297 q299 qs17 q21 q300 rfl rfl 1 rfl (by decide +kernel) ⟨Nat.le_of_ble_eq_true rfl, Nat.le_of_ble_eq_true rfl⟩ hl.1 rfl (Nat.le_of_ble_eq_true rfl) dX1_changed_33 ⟨Nat.zero_le _, Nat.zero_le _⟩ (fun r_33 σ_33 H locs hp_33 w => ?_)
  obtain ⟨e1, e2⟩ := hp_33
  rw [e2] at w
  refine g_eq (y := (nI (1))) (e1) ?_
  refine lv_if_ne (tgt := 42) hx hb dX1_changed_36 (by decide) (fun _ => ?_) (fun hn => absurd hn (by decide))
  refine lv_iconst (v := (nI (0))) hx hb dX1_changed_42 (by decide) ?_
  refine lv_istore_n (lv' := [(3, .int (nI (0))), (0, .ref h), (1, .int (nI (a))), (2, .int (nI (b)))]) hx hb dX1_changed_43 rfl hl (by decide) rfl (fun ls hl => ?_)
  refine lv_iload_n hx hb dX1_changed_44 rfl (lv_at hl 2 rfl) ?_
  refine lv_iconst (v := (nI (1))) hx hb dX1_changed_45 (by decide) ?_
  refine n_iadd hx hb dX1_changed_46 ?_
  refine lv_istore (lv' := [(4, .int (nI (a + 1))), (3, .int (nI (0))), (0, .ref h), (1, .int (nI (a))), (2, .int (nI (b)))]) hx hb dX1_changed_47 hl (by decide) rfl (fun ls hl => ?_)
  have loop : ∀ (u q : Nat), q + u = b - a → ∀ (ls : Array Slot), lv_has ls 5 [(4, .int (nI (a + 1 + q))), (3, .int (ors (μ 3) a q)), (0, .ref h), (1, .int (nI (a))), (2, .int (nI (b)))] → W p l e (rm 2) s m args below meth c H locs 0 0 Q (F0 m 49 ls []) := by
    intro u
    induction u with
    | zero =>
      intro q hq ls hl
      refine lv_iload hx hb dX1_changed_49 (lv_at hl 0 rfl) ?_
      refine lv_iload_n hx hb dX1_changed_51 rfl (lv_at hl 4 rfl) ?_
      refine lv_icmp_gt (tgt := 74) hx hb dX1_changed_52 (by decide) (fun _ => ?_) (fun hn => absurd (nI_lt (by omega) (by omega)) hn)
      refine lv_aload_n hx hb dX1_changed_74 rfl (lv_at hl 2 rfl) ?_
      refine lv_iload_n hx hb dX1_changed_75 rfl (lv_at hl 1 rfl) ?_
      refine k_calli (ci := 1) (C := RX1) (T := TX1) (N := 10) (m_sizeOf μ (ors (μ 3) a q)) E w q256 q258 qs15 q21 q259 rfl rfl 1 rfl (by decide +kernel) ⟨Nat.le_of_ble_eq_true rfl, Nat.le_of_ble_eq_true rfl⟩ hl.1 rfl (Nat.le_of_ble_eq_true rfl) dX1_changed_76 ⟨Nat.zero_le _, Nat.zero_le _⟩ (fun r_76 σ_76 H locs hp_76 w => ?_)
      obtain ⟨e1, e2⟩ := hp_76
      rw [e2] at w
      exact ret _ _ _ _ _ _ (⟨by rw [e1, show q = b - a by omega], rfl⟩) w dX1_changed_79
    | succ u ih =>
      intro q hq ls hl
      have h6 : (a + 1 + q) % 6 < 6 := Nat.mod_lt _ (by decide)
      refine lv_iload hx hb dX1_changed_49 (lv_at hl 0 rfl) ?_
      refine lv_iload_n hx hb dX1_changed_51 rfl (lv_at hl 4 rfl) ?_
      refine lv_icmp_gt (tgt := 74) hx hb dX1_changed_52 (by decide) (fun hn => absurd hn (nI_nlt (by omega) (by omega))) (fun _ => ?_)
      refine lv_iload_n hx hb dX1_changed_55 rfl (lv_at hl 1 rfl) ?_
      refine lv_aload_n hx hb dX1_changed_56 rfl (lv_at hl 2 rfl) ?_
      refine m_get (v := .ref (ad 3)) E w 3 (by decide) q208 rfl dX1_changed_57 ?_
      refine lv_iload hx hb dX1_changed_60 (lv_at hl 0 rfl) ?_
      refine lv_bipush (v := (nI (6))) hx hb dX1_changed_62 (by decide) ?_
      refine n_irem (by omega) (by decide) (by decide) hx hb dX1_changed_64 ?_
      refine g_iald (f := μ 3) E w 3 2 rfl rfl (by omega) (by decide) dX1_changed_65 ?_
      refine lv_ior hx hb dX1_changed_66 ?_
      refine lv_istore_n (lv' := [(3, .int (ors (μ 3) a (q + 1))), (4, .int (nI (a + 1 + q))), (0, .ref h), (1, .int (nI (a))), (2, .int (nI (b)))]) hx hb dX1_changed_67 rfl hl (by decide) rfl (fun ls hl => ?_)
      refine lv_iinc (v := (nI (a + 1 + (q + 1)))) (lv' := [(4, .int (nI (a + 1 + (q + 1)))), (3, .int (ors (μ 3) a (q + 1))), (0, .ref h), (1, .int (nI (a))), (2, .int (nI (b)))]) hx hb dX1_changed_68 hl (k := 1) rfl (nI_1 (a + 1 + q)) (by decide) rfl (fun ls hl => ?_)
      refine lv_goto (tgt := 49) hx hb dX1_changed_71 (by decide) ?_
      exact ih (q + 1) (by omega) ls hl
  exact loop (b - a) 0 (by omega) ls hl
set_option maxHeartbeats 4000000 in
set_option maxRecDepth 100000 in
theorem m_commit_bad (μ : ST) (t : Int32) (hbad : t < 0 ∨ nI 3 < t) : KMi WM tM yX1_commit cX1_commit 6 (some .int) 1 [.int (t)] μ (fun r σ' => r = -1 ∧ σ' = μ) := by
  refine KMi.ofI (own := RX1) (by decide +kernel) rfl (fun _ => Nat.le_of_ble_eq_true rfl) ?_
  intro p l e s m args below meth c D h ad d A ls Q E w ret hl
  have hx := E.1
  have hb := E.2.1
  have hl : lv_has ls 6 [(0, .ref h), (1, .int (t))] := hl
  refine lv_aload_n hx hb dX1_commit_0 rfl (lv_at hl 0 rfl) ?_
  refine lv_iload_n hx hb dX1_commit_1 rfl (lv_at hl 1 rfl) ?_
  refine k_calli (ci := 1) (C := RX1) (T := TX1) (N := 10) (m_isT_n μ t (hbad)) E w q240 q242 qs12 q21 q243 rfl rfl 1 rfl (by decide +kernel) ⟨Nat.le_of_ble_eq_true rfl, Nat.le_of_ble_eq_true rfl⟩ hl.1 rfl (Nat.le_of_ble_eq_true rfl) dX1_commit_2 ⟨Nat.zero_le _, Nat.zero_le _⟩ (fun r_2 σ_2 H locs hp_2 w => ?_)
  obtain ⟨e1, e2⟩ := hp_2
  rw [e2] at w
  refine g_eq (y := (nI (0))) (e1) ?_
  refine lv_if_ne (tgt := 10) hx hb dX1_commit_5 (by decide) (fun hn => absurd hn (fun z => z nI_0)) (fun _ => ?_)
  refine lv_iconst (v := (-1)) hx hb dX1_commit_8 (by decide) ?_
  exact ret _ _ _ _ _ _ (⟨rfl, rfl⟩) w dX1_commit_9
set_option maxHeartbeats 4000000 in
set_option maxRecDepth 100000 in
theorem m_commit_cl (μ : ST) (t : Nat) (ht : t < 4) (ho : μ 4 t = 0) : KMi WM tM yX1_commit cX1_commit 6 (some .int) 1 [.int (nI (t))] μ (fun r σ' => r = -3 ∧ σ' = μ) := by
  refine KMi.ofI (own := RX1) (by decide +kernel) rfl (fun _ => Nat.le_of_ble_eq_true rfl) ?_
  intro p l e s m args below meth c D h ad d A ls Q E w ret hl
  have hx := E.1
  have hb := E.2.1
  have hl : lv_has ls 6 [(0, .ref h), (1, .int (nI (t)))] := hl
  refine lv_aload_n hx hb dX1_commit_0 rfl (lv_at hl 0 rfl) ?_
  refine lv_iload_n hx hb dX1_commit_1 rfl (lv_at hl 1 rfl) ?_
  refine k_calli (ci := 1) (C := RX1) (T := TX1) (N := 10) (m_isT_y μ t ht) E w q240 q242 qs12 q21 q243 rfl rfl 1 rfl (by decide +kernel) ⟨Nat.le_of_ble_eq_true rfl, Nat.le_of_ble_eq_true rfl⟩ hl.1 rfl (Nat.le_of_ble_eq_true rfl) dX1_commit_2 ⟨Nat.zero_le _, Nat.zero_le _⟩ (fun r_2 σ_2 H locs hp_2 w => ?_)
  obtain ⟨e1, e2⟩ := hp_2
  rw [e2] at w
  refine g_eq (y := (nI (1))) (e1) ?_
  refine lv_if_ne (tgt := 10) hx hb dX1_commit_5 (by decide) (fun _ => ?_) (fun hn => absurd hn (by decide))
  refine lv_aload_n hx hb dX1_commit_10 rfl (lv_at hl 0 rfl) ?_
  refine m_get (v := .ref (ad 4)) E w 4 (by decide) q209 rfl dX1_commit_11 ?_
  refine lv_iload_n hx hb dX1_commit_14 rfl (lv_at hl 1 rfl) ?_
  refine g_zald (f := μ 4) E w 4 3 rfl rfl (by omega) (by decide) dX1_commit_15 ?_
  refine lv_if_ne (tgt := 22) hx hb dX1_commit_16 (by decide) (fun hn => absurd hn (fun z => z ho)) (fun _ => ?_)
  refine lv_bipush (v := (-3)) hx hb dX1_commit_19 (by decide) ?_
  exact ret _ _ _ _ _ _ (⟨rfl, rfl⟩) w dX1_commit_21
set_option maxHeartbeats 4000000 in
set_option maxRecDepth 100000 in
theorem m_commit_conf (μ : ST) (t : Nat) (ht : t < 4) (ho : ¬ μ 4 t = 0) (hcf : ¬ μ 8 t &&& μ 9 t = 0) : KMi WM tM yX1_commit cX1_commit 6 (some .int) 1 [.int (nI (t))] μ (fun r σ' => r = -5 ∧ σ' = su μ 4 t (nI 0)) := by
  refine KMi.ofI (own := RX1) (by decide +kernel) rfl (fun _ => Nat.le_of_ble_eq_true rfl) ?_
  intro p l e s m args below meth c D h ad d A ls Q E w ret hl
  have hx := E.1
  have hb := E.2.1
  have hl : lv_has ls 6 [(0, .ref h), (1, .int (nI (t)))] := hl
  refine lv_aload_n hx hb dX1_commit_0 rfl (lv_at hl 0 rfl) ?_
  refine lv_iload_n hx hb dX1_commit_1 rfl (lv_at hl 1 rfl) ?_
  refine k_calli (ci := 1) (C := RX1) (T := TX1) (N := 10) (m_isT_y μ t ht) E w q240 q242 qs12 q21 q243 rfl rfl 1 rfl (by decide +kernel) ⟨Nat.le_of_ble_eq_true rfl, Nat.le_of_ble_eq_true rfl⟩ hl.1 rfl (Nat.le_of_ble_eq_true rfl) dX1_commit_2 ⟨Nat.zero_le _, Nat.zero_le _⟩ (fun r_2 σ_2 H locs hp_2 w => ?_)
  obtain ⟨e1, e2⟩ := hp_2
  rw [e2] at w
  refine g_eq (y := (nI (1))) (e1) ?_
  refine lv_if_ne (tgt := 10) hx hb dX1_commit_5 (by decide) (fun _ => ?_) (fun hn => absurd hn (by decide))
  refine lv_aload_n hx hb dX1_commit_10 rfl (lv_at hl 0 rfl) ?_
  refine m_get (v := .ref (ad 4)) E w 4 (by decide) q209 rfl dX1_commit_11 ?_
  refine lv_iload_n hx hb dX1_commit_14 rfl (lv_at hl 1 rfl) ?_
  refine g_zald (f := μ 4) E w 4 3 rfl rfl (by omega) (by decide) dX1_commit_15 ?_
  refine lv_if_ne (tgt := 22) hx hb dX1_commit_16 (by decide) (fun _ => ?_) (fun hn => absurd hn (ho))
  refine lv_aload_n hx hb dX1_commit_22 rfl (lv_at hl 0 rfl) ?_
  refine m_get (v := .ref (ad 4)) E w 4 (by decide) q209 rfl dX1_commit_23 ?_
  refine lv_iload_n hx hb dX1_commit_26 rfl (lv_at hl 1 rfl) ?_
  refine lv_iconst (v := (nI (0))) hx hb dX1_commit_27 (by decide) ?_
  refine g_zast (f := μ 4) (ws' := WM h ad d (su μ 4 (t) (nI (0)))) E w 4 3 rfl rfl (by omega) (by decide) (rfl) rfl dX1_commit_28 (fun H locs w => ?_)
  refine lv_aload_n hx hb dX1_commit_29 rfl (lv_at hl 0 rfl) ?_
  refine m_get (v := .ref (ad 8)) E w 8 (by decide) q213 rfl dX1_commit_30 ?_
  refine lv_iload_n hx hb dX1_commit_33 rfl (lv_at hl 1 rfl) ?_
  refine g_iald (f := μ 8) E w 8 7 rfl rfl (by omega) (by decide) dX1_commit_34 ?_
  refine lv_aload_n hx hb dX1_commit_35 rfl (lv_at hl 0 rfl) ?_
  refine m_get (v := .ref (ad 9)) E w 9 (by decide) q214 rfl dX1_commit_36 ?_
  refine lv_iload_n hx hb dX1_commit_39 rfl (lv_at hl 1 rfl) ?_
  refine g_iald (f := μ 9) E w 9 8 rfl rfl (by omega) (by decide) dX1_commit_40 ?_
  refine lv_iand hx hb dX1_commit_41 ?_
  refine lv_if_eq (tgt := 48) hx hb dX1_commit_42 (by decide) (fun hn => absurd hn (hcf)) (fun _ => ?_)
  refine lv_bipush (v := (-5)) hx hb dX1_commit_45 (by decide) ?_
  exact ret _ _ _ _ _ _ (⟨rfl, rfl⟩) w dX1_commit_47
set_option maxHeartbeats 4000000 in
set_option maxRecDepth 100000 in
theorem m_commit_ok (μ : ST) (t : Nat) (L : Nat) (hL : μ 0 0 = nI L) (hL2 : L < 1000) (ht : t < 4) (ho : ¬ μ 4 t = 0) (hcf : μ 8 t &&& μ 9 t = 0) (hz1 : ∀ j, j < 192 → vp_nar .boolean (μ 1 j) = μ 1 j) (hz5 : ∀ j, j < 128 → vp_nar .boolean (μ 5 j) = μ 5 j) : KMi WM tM yX1_commit cX1_commit 6 (some .int) 1 [.int (nI (t))] μ (fun r σ' => r = nI (L + 1) ∧ (∀ a, a ≠ 0 → a ≠ 1 → a ≠ 2 → a ≠ 3 → a ≠ 4 → a ≠ 9 → σ' a = μ a) ∧ σ' 0 0 = nI (L + 1) ∧ σ' 4 = upd (μ 4) t (nI 0) ∧ σ' 1 = fb_put (μ 1) (fun q => if bt (μ 7 t) q then μ 5 (32 * t + q) else μ 1 (32 * (L % 6) + q)) (32 * ((L + 1) % 6)) 32 ∧ σ' 2 = fb_put (μ 2) (fun q => if bt (μ 7 t) q then μ 6 (32 * t + q) else μ 2 (32 * (L % 6) + q)) (32 * ((L + 1) % 6)) 32 ∧ σ' 3 = upd (μ 3) ((L + 1) % 6) (μ 7 t) ∧ ∀ u, u < 4 → σ' 9 u = μ 9 u ||| μ 7 t) := by
  refine KMi.ofI (own := RX1) (by decide +kernel) rfl (fun _ => Nat.le_of_ble_eq_true rfl) ?_
  intro p l e s m args below meth c D h ad d A ls Q E w ret hl
  have hx := E.1
  have hb := E.2.1
  have hl : lv_has ls 6 [(0, .ref h), (1, .int (nI (t)))] := hl
  have hL6 : L % 6 < 6 := Nat.mod_lt _ (by decide)
  have hL7 : (L + 1) % 6 < 6 := Nat.mod_lt _ (by decide)
  have hL8 : L % 6 ≠ (L + 1) % 6 := by omega
  have loop2 : ∀ (u q : Nat), q + u = 4 → ∀ (μ2 : ST), (∀ a, a ≠ 0 → a ≠ 1 → a ≠ 2 → a ≠ 3 → a ≠ 4 → a ≠ 9 → μ2 a = μ a) → μ2 0 0 = nI (L + 1) → μ2 4 = upd (μ 4) t (nI 0) → μ2 1 = fb_put (μ 1) (fun q => if bt (μ 7 t) q then μ 5 (32 * t + q) else μ 1 (32 * (L % 6) + q)) (32 * ((L + 1) % 6)) 32 → μ2 2 = fb_put (μ 2) (fun q => if bt (μ 7 t) q then μ 6 (32 * t + q) else μ 2 (32 * (L % 6) + q)) (32 * ((L + 1) % 6)) 32 → μ2 3 = upd (μ 3) ((L + 1) % 6) (μ 7 t) → (∀ z, z < q → μ2 9 z = μ 9 z ||| μ 7 t) → (∀ z, q ≤ z → μ2 9 z = μ 9 z) → ∀ (H : Heap) (locs : List Loc) (ls : Array Slot), GW D A s.heap s (tM d) (WM h ad d μ2) H locs → lv_has ls 6 [(4, .int (nI (q))), (3, .int (nI (32 * ((L + 1) % 6)))), (2, .int (nI (32 * (L % 6)))), (0, .ref h), (1, .int (nI (t)))] → W p l e (rm 1) s m args below meth c H locs 0 0 Q (F0 m 207 ls []) := by
    intro u
    induction u with
    | zero =>
      intro q hq μ2 hr h0 h4 h1 h2 h3 h9 h9b H locs ls w hl
      refine lv_iload hx hb dX1_commit_207 (lv_at hl 0 rfl) ?_
      refine lv_iconst (v := (nI (4))) hx hb dX1_commit_209 (by decide) ?_
      refine lv_icmp_ge (tgt := 240) hx hb dX1_commit_210 (by decide) (fun _ => ?_) (fun hn => absurd (nI_le (by omega) (by omega)) hn)
      refine lv_aload_n hx hb dX1_commit_240 rfl (lv_at hl 3 rfl) ?_
      refine m_get (v := .int (μ2 0 0)) E w 0 (by decide) q205 rfl dX1_commit_241 ?_
      refine g_eq (y := (nI (L + 1))) (h0) ?_
      exact ret _ _ _ _ _ _ (⟨rfl, hr, h0, h4, h1, h2, h3, fun z hz => h9 z (by omega)⟩) w dX1_commit_244
    | succ u ih =>
      intro q hq μ2 hr h0 h4 h1 h2 h3 h9 h9b H locs ls w hl
      have g7 : μ2 7 = μ 7 := hr 7 (by decide) (by decide) (by decide) (by decide) (by decide) (by decide)
      refine lv_iload hx hb dX1_commit_207 (lv_at hl 0 rfl) ?_
      refine lv_iconst (v := (nI (4))) hx hb dX1_commit_209 (by decide) ?_
      refine lv_icmp_ge (tgt := 240) hx hb dX1_commit_210 (by decide) (fun hn => absurd hn (nI_ge (by omega) (by omega))) (fun _ => ?_)
      refine lv_aload_n hx hb dX1_commit_213 rfl (lv_at hl 3 rfl) ?_
      refine m_get (v := .ref (ad 9)) E w 9 (by decide) q214 rfl dX1_commit_214 ?_
      refine lv_iload hx hb dX1_commit_217 (lv_at hl 0 rfl) ?_
      refine lv_aload_n hx hb dX1_commit_219 rfl (lv_at hl 3 rfl) ?_
      refine m_get (v := .ref (ad 9)) E w 9 (by decide) q214 rfl dX1_commit_220 ?_
      refine lv_iload hx hb dX1_commit_223 (lv_at hl 0 rfl) ?_
      refine g_iald (f := μ2 9) E w 9 8 rfl rfl (by omega) (by decide) dX1_commit_225 ?_
      refine g_eq (y := (μ 9 q)) (h9b q (Nat.le_refl _)) ?_
      refine lv_aload_n hx hb dX1_commit_226 rfl (lv_at hl 3 rfl) ?_
      refine m_get (v := .ref (ad 7)) E w 7 (by decide) q212 rfl dX1_commit_227 ?_
      refine lv_iload_n hx hb dX1_commit_230 rfl (lv_at hl 4 rfl) ?_
      refine g_iald (f := μ2 7) E w 7 6 rfl rfl (by omega) (by decide) dX1_commit_231 ?_
      refine g_eq (y := (μ 7 t)) (by rw [g7]) ?_
      refine lv_ior hx hb dX1_commit_232 ?_
      refine g_iast (f := μ2 9) (ws' := WM h ad d (su μ2 9 (q) ((μ 9 q) ||| (μ 7 t)))) E w 9 8 rfl rfl (by omega) (by decide) rfl dX1_commit_233 (fun H locs w => ?_)
      refine lv_iinc (v := (nI (q + 1))) (lv' := [(4, .int (nI (q + 1))), (3, .int (nI (32 * ((L + 1) % 6)))), (2, .int (nI (32 * (L % 6)))), (0, .ref h), (1, .int (nI (t)))]) hx hb dX1_commit_234 hl (k := 0) rfl (nI_1 (q)) (by decide) rfl (fun ls hl => ?_)
      refine lv_goto (tgt := 207) hx hb dX1_commit_237 (by decide) ?_
      refine ih (q + 1) (by omega) (su μ2 9 (q) ((μ 9 q) ||| (μ 7 t))) (fun a z0 z1 z2 z3 z4 z9 => by rw [su_ne _ _ _ z9]; exact hr a z0 z1 z2 z3 z4 z9) h0 h4 h1 h2 h3 (fun z hz => ?_) (fun z hz => ?_) H locs ls w hl
      · show upd (μ2 9) q (μ 9 q ||| μ 7 t) z = _
        by_cases e : z = q
        · rw [e, pk_us]
        · rw [pk_un e]; exact h9 z (by omega)
      · show upd (μ2 9) q (μ 9 q ||| μ 7 t) z = _
        rw [pk_un (by omega)]; exact h9b z (by omega)
  have loop1 : ∀ (u q : Nat), q + u = 32 → ∀ (μ1 : ST), (∀ a, a ≠ 0 → a ≠ 1 → a ≠ 2 → a ≠ 4 → μ1 a = μ a) → μ1 0 0 = nI (L + 1) → μ1 4 = upd (μ 4) t (nI 0) → μ1 1 = fb_put (μ 1) (fun q => if bt (μ 7 t) q then μ 5 (32 * t + q) else μ 1 (32 * (L % 6) + q)) (32 * ((L + 1) % 6)) q → μ1 2 = fb_put (μ 2) (fun q => if bt (μ 7 t) q then μ 6 (32 * t + q) else μ 2 (32 * (L % 6) + q)) (32 * ((L + 1) % 6)) q → ∀ (H : Heap) (locs : List Loc) (ls : Array Slot), GW D A s.heap s (tM d) (WM h ad d μ1) H locs → lv_has ls 6 [(4, .int (nI (q))), (3, .int (nI (32 * ((L + 1) % 6)))), (2, .int (nI (32 * (L % 6)))), (0, .ref h), (1, .int (nI (t)))] → W p l e (rm 1) s m args below meth c H locs 0 0 Q (F0 m 83 ls []) := by
    intro u
    induction u with
    | zero =>
      intro q hq μ1 hr h0 h4 h1 h2 H locs ls w hl
      have hq : q = 32 := by omega
      subst hq
      have g7 : μ1 7 = μ 7 := hr 7 (by decide) (by decide) (by decide) (by decide)
      refine lv_iload hx hb dX1_commit_83 (lv_at hl 0 rfl) ?_
      refine lv_bipush (v := (nI (32))) hx hb dX1_commit_85 (by decide) ?_
      refine lv_icmp_ge (tgt := 186) hx hb dX1_commit_87 (by decide) (fun _ => ?_) (fun hn => absurd (nI_le (by omega) (by omega)) hn)
      refine lv_aload_n hx hb dX1_commit_186 rfl (lv_at hl 3 rfl) ?_
      refine m_get (v := .ref (ad 3)) E w 3 (by decide) q208 rfl dX1_commit_187 ?_
      refine lv_aload_n hx hb dX1_commit_190 rfl (lv_at hl 3 rfl) ?_
      refine m_get (v := .int (μ1 0 0)) E w 0 (by decide) q205 rfl dX1_commit_191 ?_
      refine g_eq (y := (nI (L + 1))) (h0) ?_
      refine lv_bipush (v := (nI (6))) hx hb dX1_commit_194 (by decide) ?_
      refine n_irem (by omega) (by decide) (by decide) hx hb dX1_commit_196 ?_
      refine lv_aload_n hx hb dX1_commit_197 rfl (lv_at hl 3 rfl) ?_
      refine m_get (v := .ref (ad 7)) E w 7 (by decide) q212 rfl dX1_commit_198 ?_
      refine lv_iload_n hx hb dX1_commit_201 rfl (lv_at hl 4 rfl) ?_
      refine g_iald (f := μ1 7) E w 7 6 rfl rfl (by omega) (by decide) dX1_commit_202 ?_
      refine g_eq (y := (μ 7 t)) (by rw [g7]) ?_
      refine g_iast (f := μ1 3) (ws' := WM h ad d (su μ1 3 ((L + 1) % 6) (μ 7 t))) E w 3 2 rfl rfl (by omega) (by decide) rfl dX1_commit_203 (fun H locs w => ?_)
      refine lv_iconst (v := (nI (0))) hx hb dX1_commit_204 (by decide) ?_
      refine lv_istore (lv' := [(4, .int (nI (0))), (3, .int (nI (32 * ((L + 1) % 6)))), (2, .int (nI (32 * (L % 6)))), (0, .ref h), (1, .int (nI (t)))]) hx hb dX1_commit_205 hl (by decide) rfl (fun ls hl => ?_)
      refine loop2 4 0 (by omega) (su μ1 3 ((L + 1) % 6) (μ 7 t)) (fun a z0 z1 z2 z3 z4 z9 => by rw [su_ne _ _ _ z3]; exact hr a z0 z1 z2 z4) h0 h4 h1 h2 ?_ (fun z hz => absurd hz (by omega)) (fun z hz => ?_) H locs ls w (lv_sub hl [0, 1, 2, 3, 4] rfl)
      · show upd (μ1 3) ((L + 1) % 6) (μ 7 t) = _; rw [hr 3 (by decide) (by decide) (by decide) (by decide)]
      · show μ1 9 z = _; rw [hr 9 (by decide) (by decide) (by decide) (by decide)]
    | succ u ih =>
      intro q hq μ1 hr h0 h4 h1 h2 H locs ls w hl
      have g7 : μ1 7 = μ 7 := hr 7 (by decide) (by decide) (by decide) (by decide)
      have g5 : μ1 5 = μ 5 := hr 5 (by decide) (by decide) (by decide) (by decide)
      have g6 : μ1 6 = μ 6 := hr 6 (by decide) (by decide) (by decide) (by decide)
      have g1 : μ1 1 (32 * (L % 6) + q) = μ 1 (32 * (L % 6) + q) := by rw [h1, fb_put_out (by omega)]
      have g2 : μ1 2 (32 * (L % 6) + q) = μ 2 (32 * (L % 6) + q) := by rw [h2, fb_put_out (by omega)]
      refine lv_iload hx hb dX1_commit_83 (lv_at hl 0 rfl) ?_
      refine lv_bipush (v := (nI (32))) hx hb dX1_commit_85 (by decide) ?_
      refine lv_icmp_ge (tgt := 186) hx hb dX1_commit_87 (by decide) (fun hn => absurd hn (nI_ge (by omega) (by omega))) (fun _ => ?_)
      refine lv_aload_n hx hb dX1_commit_90 rfl (lv_at hl 3 rfl) ?_
      refine lv_aload_n hx hb dX1_commit_91 rfl (lv_at hl 3 rfl) ?_
      refine m_get (v := .ref (ad 7)) E w 7 (by decide) q212 rfl dX1_commit_92 ?_
      refine lv_iload_n hx hb dX1_commit_95 rfl (lv_at hl 4 rfl) ?_
      refine g_iald (f := μ1 7) E w 7 6 rfl rfl (by omega) (by decide) dX1_commit_96 ?_
      refine g_eq (y := (μ 7 t)) (by rw [g7]) ?_
      refine lv_iload hx hb dX1_commit_97 (lv_at hl 0 rfl) ?_
      refine k_calli (ci := 1) (C := RX1) (T := TX1) (N := 10) (m_in μ1 (μ 7 t) q (by omega)) E w q260 q262 qs16 q21 q263 rfl rfl 2 rfl (by decide +kernel) ⟨Nat.le_of_ble_eq_true rfl, Nat.le_of_ble_eq_true rfl⟩ hl.1 rfl (Nat.le_of_ble_eq_true rfl) dX1_commit_99 ⟨Nat.zero_le _, Nat.zero_le _⟩ (fun r_99 σ_99 H locs hp_99 w => ?_)
      obtain ⟨e1, e2⟩ := hp_99
      rw [e2] at w
      rcases (Bool.eq_false_or_eq_true (bt (μ 7 t) q)) with g | g
      · refine g_eq (y := (nI (1))) (by rw [e1, g]; rfl) ?_
        refine lv_istore (lv' := [(5, .int (nI (1))), (4, .int (nI (q))), (3, .int (nI (32 * ((L + 1) % 6)))), (2, .int (nI (32 * (L % 6)))), (0, .ref h), (1, .int (nI (t)))]) hx hb dX1_commit_102 hl (by decide) rfl (fun ls hl => ?_)
        refine lv_aload_n hx hb dX1_commit_104 rfl (lv_at hl 4 rfl) ?_
        refine m_get (v := .ref (ad 1)) E w 1 (by decide) q206 rfl dX1_commit_105 ?_
        refine lv_iload_n hx hb dX1_commit_108 rfl (lv_at hl 2 rfl) ?_
        refine lv_iload hx hb dX1_commit_109 (lv_at hl 1 rfl) ?_
        refine n_iadd hx hb dX1_commit_111 ?_
        refine lv_iload hx hb dX1_commit_112 (lv_at hl 0 rfl) ?_
        refine lv_if_eq (tgt := 132) hx hb dX1_commit_114 (by decide) (fun hn => absurd hn (by decide)) (fun _ => ?_)
        refine lv_aload_n hx hb dX1_commit_117 rfl (lv_at hl 4 rfl) ?_
        refine m_get (v := .ref (ad 5)) E w 5 (by decide) q210 rfl dX1_commit_118 ?_
        refine lv_bipush (v := (nI (32))) hx hb dX1_commit_121 (by decide) ?_
        refine lv_iload_n hx hb dX1_commit_123 rfl (lv_at hl 5 rfl) ?_
        refine n_imul hx hb dX1_commit_124 ?_
        refine lv_iload hx hb dX1_commit_125 (lv_at hl 1 rfl) ?_
        refine n_iadd hx hb dX1_commit_127 ?_
        refine g_zald (f := μ1 5) E w 5 4 rfl rfl (by omega) (by decide) dX1_commit_128 ?_
        refine g_eq (y := (μ 5 (32 * t + q))) (by rw [g5]) ?_
        refine lv_goto (tgt := 141) hx hb dX1_commit_129 (by decide) ?_
        refine g_zast (f := μ1 1) (ws' := WM h ad d (su μ1 1 ((32 * ((L + 1) % 6)) + q) (μ 5 (32 * t + q)))) E w 1 0 rfl rfl (by omega) (by decide) (hz5 _ (by omega)) rfl dX1_commit_141 (fun H locs w => ?_)
        refine lv_aload_n hx hb dX1_commit_142 rfl (lv_at hl 4 rfl) ?_
        refine m_get (v := .ref (ad 2)) E w 2 (by decide) q207 rfl dX1_commit_143 ?_
        refine lv_iload_n hx hb dX1_commit_146 rfl (lv_at hl 2 rfl) ?_
        refine lv_iload hx hb dX1_commit_147 (lv_at hl 1 rfl) ?_
        refine n_iadd hx hb dX1_commit_149 ?_
        refine lv_iload hx hb dX1_commit_150 (lv_at hl 0 rfl) ?_
        refine lv_if_eq (tgt := 170) hx hb dX1_commit_152 (by decide) (fun hn => absurd hn (by decide)) (fun _ => ?_)
        refine lv_aload_n hx hb dX1_commit_155 rfl (lv_at hl 4 rfl) ?_
        refine m_get (v := .ref (ad 6)) E w 6 (by decide) q211 rfl dX1_commit_156 ?_
        refine lv_bipush (v := (nI (32))) hx hb dX1_commit_159 (by decide) ?_
        refine lv_iload_n hx hb dX1_commit_161 rfl (lv_at hl 5 rfl) ?_
        refine n_imul hx hb dX1_commit_162 ?_
        refine lv_iload hx hb dX1_commit_163 (lv_at hl 1 rfl) ?_
        refine n_iadd hx hb dX1_commit_165 ?_
        refine g_iald (f := μ1 6) E w 6 5 rfl rfl (by omega) (by decide) dX1_commit_166 ?_
        refine g_eq (y := (μ 6 (32 * t + q))) (by rw [g6]) ?_
        refine lv_goto (tgt := 179) hx hb dX1_commit_167 (by decide) ?_
        refine g_iast (f := μ1 2) (ws' := WM h ad d (su (su μ1 1 ((32 * ((L + 1) % 6)) + q) (μ 5 (32 * t + q))) 2 ((32 * ((L + 1) % 6)) + q) (μ 6 (32 * t + q)))) E w 2 1 rfl rfl (by omega) (by decide) rfl dX1_commit_179 (fun H locs w => ?_)
        refine lv_iinc (v := (nI (q + 1))) (lv' := [(4, .int (nI (q + 1))), (5, .int (nI (1))), (3, .int (nI (32 * ((L + 1) % 6)))), (2, .int (nI (32 * (L % 6)))), (0, .ref h), (1, .int (nI (t)))]) hx hb dX1_commit_180 hl (k := 1) rfl (nI_1 (q)) (by decide) rfl (fun ls hl => ?_)
        refine lv_goto (tgt := 83) hx hb dX1_commit_183 (by decide) ?_
        have k1 : (fun q => if bt (μ 7 t) q then μ 5 (32 * t + q) else μ 1 (32 * (L % 6) + q)) q = μ 5 (32 * t + q) := if_pos g
        have k2 : (fun q => if bt (μ 7 t) q then μ 6 (32 * t + q) else μ 2 (32 * (L % 6) + q)) q = μ 6 (32 * t + q) := if_pos g
        refine ih (q + 1) (by omega) (su (su μ1 1 ((32 * ((L + 1) % 6)) + q) (μ 5 (32 * t + q))) 2 ((32 * ((L + 1) % 6)) + q) (μ 6 (32 * t + q))) (fun a z0 z1 z2 z4 => by rw [su_ne _ _ _ z2, su_ne _ _ _ z1]; exact hr a z0 z1 z2 z4) h0 h4 ?_ ?_ H locs ls w (lv_sub hl [0, 2, 3, 4, 5] rfl)
        · show upd (μ1 1) (32 * ((L + 1) % 6) + q) (μ 5 (32 * t + q)) = _; rw [h1, ← k1, fb_put_succ]
        · show upd (μ1 2) (32 * ((L + 1) % 6) + q) (μ 6 (32 * t + q)) = _; rw [h2, ← k2, fb_put_succ]
      · refine g_eq (y := (nI (0))) (by rw [e1, g]; rfl) ?_
        refine lv_istore (lv' := [(5, .int (nI (0))), (4, .int (nI (q))), (3, .int (nI (32 * ((L + 1) % 6)))), (2, .int (nI (32 * (L % 6)))), (0, .ref h), (1, .int (nI (t)))]) hx hb dX1_commit_102 hl (by decide) rfl (fun ls hl => ?_)
        refine lv_aload_n hx hb dX1_commit_104 rfl (lv_at hl 4 rfl) ?_
        refine m_get (v := .ref (ad 1)) E w 1 (by decide) q206 rfl dX1_commit_105 ?_
        refine lv_iload_n hx hb dX1_commit_108 rfl (lv_at hl 2 rfl) ?_
        refine lv_iload hx hb dX1_commit_109 (lv_at hl 1 rfl) ?_
        refine n_iadd hx hb dX1_commit_111 ?_
        refine lv_iload hx hb dX1_commit_112 (lv_at hl 0 rfl) ?_
        refine lv_if_eq (tgt := 132) hx hb dX1_commit_114 (by decide) (fun _ => ?_) (fun hn => absurd (nI_0) hn)
        refine lv_aload_n hx hb dX1_commit_132 rfl (lv_at hl 4 rfl) ?_
        refine m_get (v := .ref (ad 1)) E w 1 (by decide) q206 rfl dX1_commit_133 ?_
        refine lv_iload_n hx hb dX1_commit_136 rfl (lv_at hl 3 rfl) ?_
        refine lv_iload hx hb dX1_commit_137 (lv_at hl 1 rfl) ?_
        refine n_iadd hx hb dX1_commit_139 ?_
        refine g_zald (f := μ1 1) E w 1 0 rfl rfl (by omega) (by decide) dX1_commit_140 ?_
        refine g_eq (y := (μ 1 (32 * (L % 6) + q))) (g1) ?_
        refine g_zast (f := μ1 1) (ws' := WM h ad d (su μ1 1 ((32 * ((L + 1) % 6)) + q) (μ 1 (32 * (L % 6) + q)))) E w 1 0 rfl rfl (by omega) (by decide) (hz1 _ (by omega)) rfl dX1_commit_141 (fun H locs w => ?_)
        refine lv_aload_n hx hb dX1_commit_142 rfl (lv_at hl 4 rfl) ?_
        refine m_get (v := .ref (ad 2)) E w 2 (by decide) q207 rfl dX1_commit_143 ?_
        refine lv_iload_n hx hb dX1_commit_146 rfl (lv_at hl 2 rfl) ?_
        refine lv_iload hx hb dX1_commit_147 (lv_at hl 1 rfl) ?_
        refine n_iadd hx hb dX1_commit_149 ?_
        refine lv_iload hx hb dX1_commit_150 (lv_at hl 0 rfl) ?_
        refine lv_if_eq (tgt := 170) hx hb dX1_commit_152 (by decide) (fun _ => ?_) (fun hn => absurd (nI_0) hn)
        refine lv_aload_n hx hb dX1_commit_170 rfl (lv_at hl 4 rfl) ?_
        refine m_get (v := .ref (ad 2)) E w 2 (by decide) q207 rfl dX1_commit_171 ?_
        refine lv_iload_n hx hb dX1_commit_174 rfl (lv_at hl 3 rfl) ?_
        refine lv_iload hx hb dX1_commit_175 (lv_at hl 1 rfl) ?_
        refine n_iadd hx hb dX1_commit_177 ?_
        refine g_iald (f := μ1 2) E w 2 1 rfl rfl (by omega) (by decide) dX1_commit_178 ?_
        refine g_eq (y := (μ 2 (32 * (L % 6) + q))) (g2) ?_
        refine g_iast (f := μ1 2) (ws' := WM h ad d (su (su μ1 1 ((32 * ((L + 1) % 6)) + q) (μ 1 (32 * (L % 6) + q))) 2 ((32 * ((L + 1) % 6)) + q) (μ 2 (32 * (L % 6) + q)))) E w 2 1 rfl rfl (by omega) (by decide) rfl dX1_commit_179 (fun H locs w => ?_)
        refine lv_iinc (v := (nI (q + 1))) (lv' := [(4, .int (nI (q + 1))), (5, .int (nI (0))), (3, .int (nI (32 * ((L + 1) % 6)))), (2, .int (nI (32 * (L % 6)))), (0, .ref h), (1, .int (nI (t)))]) hx hb dX1_commit_180 hl (k := 1) rfl (nI_1 (q)) (by decide) rfl (fun ls hl => ?_)
        refine lv_goto (tgt := 83) hx hb dX1_commit_183 (by decide) ?_
        have k1 : (fun q => if bt (μ 7 t) q then μ 5 (32 * t + q) else μ 1 (32 * (L % 6) + q)) q = μ 1 (32 * (L % 6) + q) := if_neg (by rw [g]; decide)
        have k2 : (fun q => if bt (μ 7 t) q then μ 6 (32 * t + q) else μ 2 (32 * (L % 6) + q)) q = μ 2 (32 * (L % 6) + q) := if_neg (by rw [g]; decide)
        refine ih (q + 1) (by omega) (su (su μ1 1 ((32 * ((L + 1) % 6)) + q) (μ 1 (32 * (L % 6) + q))) 2 ((32 * ((L + 1) % 6)) + q) (μ 2 (32 * (L % 6) + q))) (fun a z0 z1 z2 z4 => by rw [su_ne _ _ _ z2, su_ne _ _ _ z1]; exact hr a z0 z1 z2 z4) h0 h4 ?_ ?_ H locs ls w (lv_sub hl [0, 2, 3, 4, 5] rfl)
        · show upd (μ1 1) (32 * ((L + 1) % 6) + q) (μ 1 (32 * (L % 6) + q)) = _; rw [h1, ← k1, fb_put_succ]
        · show upd (μ1 2) (32 * ((L + 1) % 6) + q) (μ 2 (32 * (L % 6) + q)) = _; rw [h2, ← k2, fb_put_succ]
  refine lv_aload_n hx hb dX1_commit_0 rfl (lv_at hl 0 rfl) ?_
  refine lv_iload_n hx hb dX1_commit_1 rfl (lv_at hl 1 rfl) ?_
  refine k_calli (ci := 1) (C := RX1) (T := TX1) (N := 10) (m_isT_y μ t ht) E w q240 q242 qs12 q21 q243 rfl rfl 1 rfl (by decide +kernel) ⟨Nat.le_of_ble_eq_true rfl, Nat.le_of_ble_eq_true rfl⟩ hl.1 rfl (Nat.le_of_ble_eq_true rfl) dX1_commit_2 ⟨Nat.zero_le _, Nat.zero_le _⟩ (fun r_2 σ_2 H locs hp_2 w => ?_)
  obtain ⟨e1, e2⟩ := hp_2
  rw [e2] at w
  refine g_eq (y := (nI (1))) (e1) ?_
  refine lv_if_ne (tgt := 10) hx hb dX1_commit_5 (by decide) (fun _ => ?_) (fun hn => absurd hn (by decide))
  refine lv_aload_n hx hb dX1_commit_10 rfl (lv_at hl 0 rfl) ?_
  refine m_get (v := .ref (ad 4)) E w 4 (by decide) q209 rfl dX1_commit_11 ?_
  refine lv_iload_n hx hb dX1_commit_14 rfl (lv_at hl 1 rfl) ?_
  refine g_zald (f := μ 4) E w 4 3 rfl rfl (by omega) (by decide) dX1_commit_15 ?_
  refine lv_if_ne (tgt := 22) hx hb dX1_commit_16 (by decide) (fun _ => ?_) (fun hn => absurd hn (ho))
  refine lv_aload_n hx hb dX1_commit_22 rfl (lv_at hl 0 rfl) ?_
  refine m_get (v := .ref (ad 4)) E w 4 (by decide) q209 rfl dX1_commit_23 ?_
  refine lv_iload_n hx hb dX1_commit_26 rfl (lv_at hl 1 rfl) ?_
  refine lv_iconst (v := (nI (0))) hx hb dX1_commit_27 (by decide) ?_
  refine g_zast (f := μ 4) (ws' := WM h ad d (su μ 4 (t) (nI (0)))) E w 4 3 rfl rfl (by omega) (by decide) (rfl) rfl dX1_commit_28 (fun H locs w => ?_)
  refine lv_aload_n hx hb dX1_commit_29 rfl (lv_at hl 0 rfl) ?_
  refine m_get (v := .ref (ad 8)) E w 8 (by decide) q213 rfl dX1_commit_30 ?_
  refine lv_iload_n hx hb dX1_commit_33 rfl (lv_at hl 1 rfl) ?_
  refine g_iald (f := μ 8) E w 8 7 rfl rfl (by omega) (by decide) dX1_commit_34 ?_
  refine lv_aload_n hx hb dX1_commit_35 rfl (lv_at hl 0 rfl) ?_
  refine m_get (v := .ref (ad 9)) E w 9 (by decide) q214 rfl dX1_commit_36 ?_
  refine lv_iload_n hx hb dX1_commit_39 rfl (lv_at hl 1 rfl) ?_
  refine g_iald (f := μ 9) E w 9 8 rfl rfl (by omega) (by decide) dX1_commit_40 ?_
  refine lv_iand hx hb dX1_commit_41 ?_
  refine lv_if_eq (tgt := 48) hx hb dX1_commit_42 (by decide) (fun _ => ?_) (fun hn => absurd (hcf) hn)
  refine lv_bipush (v := (nI (32))) hx hb dX1_commit_48 (by decide) ?_
  refine lv_aload_n hx hb dX1_commit_50 rfl (lv_at hl 0 rfl) ?_
  refine m_get (v := .int (μ 0 0)) E w 0 (by decide) q205 rfl dX1_commit_51 ?_
  refine g_eq (y := (nI (L))) (hL) ?_
  refine lv_bipush (v := (nI (6))) hx hb dX1_commit_54 (by decide) ?_
  refine n_irem (by omega) (by decide) (by decide) hx hb dX1_commit_56 ?_
  refine n_imul hx hb dX1_commit_57 ?_
  refine lv_istore_n (lv' := [(2, .int (nI (32 * (L % 6)))), (0, .ref h), (1, .int (nI (t)))]) hx hb dX1_commit_58 rfl hl (by decide) rfl (fun ls hl => ?_)
  refine lv_aload_n hx hb dX1_commit_59 rfl (lv_at hl 1 rfl) ?_
  refine lv_dup hx hb dX1_commit_60 rfl ?_
  refine m_get (v := .int (μ 0 0)) E w 0 (by decide) q205 rfl dX1_commit_61 ?_
  refine g_eq (y := (nI (L))) (hL) ?_
  refine lv_iconst (v := (nI (1))) hx hb dX1_commit_64 (by decide) ?_
  refine n_iadd hx hb dX1_commit_65 ?_
  refine m_put (σ' := (su (su μ 4 (t) (nI (0))) 0 0 (nI (L + 1)))) E w 0 (by decide) q205 rfl (by decide +kernel) rfl dX1_commit_66 (fun H locs w => ?_)
  refine lv_bipush (v := (nI (32))) hx hb dX1_commit_69 (by decide) ?_
  refine lv_aload_n hx hb dX1_commit_71 rfl (lv_at hl 1 rfl) ?_
  refine m_get (v := .int (nI (L + 1))) E w 0 (by decide) q205 rfl dX1_commit_72 ?_
  refine lv_bipush (v := (nI (6))) hx hb dX1_commit_75 (by decide) ?_
  refine n_irem (by omega) (by decide) (by decide) hx hb dX1_commit_77 ?_
  refine n_imul hx hb dX1_commit_78 ?_
  refine lv_istore_n (lv' := [(3, .int (nI (32 * ((L + 1) % 6)))), (2, .int (nI (32 * (L % 6)))), (0, .ref h), (1, .int (nI (t)))]) hx hb dX1_commit_79 rfl hl (by decide) rfl (fun ls hl => ?_)
  refine lv_iconst (v := (nI (0))) hx hb dX1_commit_80 (by decide) ?_
  refine lv_istore (lv' := [(4, .int (nI (0))), (3, .int (nI (32 * ((L + 1) % 6)))), (2, .int (nI (32 * (L % 6)))), (0, .ref h), (1, .int (nI (t)))]) hx hb dX1_commit_81 hl (by decide) rfl (fun ls hl => ?_)
  exact loop1 32 0 (by omega) (su (su μ 4 (t) (nI (0))) 0 0 (nI (L + 1))) (fun a z0 z1 z2 z4 => by rw [su_ne _ _ _ z0, su_ne _ _ _ z4]) rfl rfl (fb_put_0 _ _ _).symm (fb_put_0 _ _ _).symm H locs ls w (lv_sub hl [0, 1, 2, 3, 4] rfl)
end
section
set_option maxRecDepth 100000
def f0M : List Value := [.int 0, .null, .null, .null, .null, .null, .null, .null, .null, .null]
def BIM (D : va_G) (A : Nat → Prop) (h : Nat) (u : (Nat → Nat) × (Nat → ClassId) × ST) (t : State) : Prop := va_P D cLs (WM h u.1 u.2.1 u.2.2) t.heap ∧ va_K D cLs (tM u.2.1) t ∧ va_D A (WM h u.1 u.2.1 u.2.2)
set_option maxHeartbeats 4000000 in
set_option maxRecDepth 100000 in
theorem m_init (l : Launch) (D : va_G) (h sz : Nat) : Met l yX1_init (ws_ yX1_init cX1_init 1 none) ({ frames := 1, cells := 9, slots := 662, locals := 12 }) (va_Pc [.ref h] (fun U => U.heap.size = sz ∧ va_P D cLs [(h, .inr (1, f0M))] U.heap ∧ va_K D cLs [] U ∧ va_D (fun _ => True) [(h, .inr (1, f0M))])) (va_Qv (fun u => u.2.2 = fun _ _ => 0) (BIM D (va_A [(h, .inr (1, f0M))] sz) h) (va_A [(h, .inr (1, f0M))] sz)) 9 662 (va_A [(h, .inr (1, f0M))] sz) := by
  refine Met.ofW (cc := cX1_init) (maxL := 1) (ret := none) (by decide +kernel) rfl ?_
  intro p e s m args below meth c s₁ B hml hv
  obtain ⟨rfl, hsz, hP, hK, hD0⟩ := hv
  have hx := B.exec
  have hb := B.bytes
  have hr := B.returns
  have hts := atoms_spec (ws := ws_ yX1_init cX1_init 1 none) B.pre
  have hts : ∀ w ∈ lw_all, w.before _ s = true := fun w h => hts w (List.mem_cons_of_mem _ h)
  have hown : s.vm.findClass RX1 = some m.cls := findClass_of_methodNamed B.named
  have hlk := B.notSynchronized
  have hin : meth.name = "<init>" := (name_of_methodNamed B.named B.method).1
  subst hsz
  have hD := hD0.self (sz := s.heap.size)
  generalize hAe : va_A [(h, .inr (1, f0M))] s.heap.size = A at hD ⊢
  have hA : ∀ q : Nat, s.heap.size ≤ q → A q := fun q h => by rw [← hAe]; exact Or.inr h
  have hS : va_S A s.heap s.heap [] := va_S.rf
  have hP : va_P D cLs [(h, .inr (1, [.int 0, .null, .null, .null, .null, .null, .null, .null, .null, .null]))] s.heap := hP
  have hD : va_D A [(h, .inr (1, [.int 0, .null, .null, .null, .null, .null, .null, .null, .null, .null]))] := hD
  have hl := lv_entry ([.ref h]) (n := 1) (Nat.le_of_ble_eq_true rfl)
  rw [lg_entry_eq]
  generalize (lg_sl ([.ref h]) ++ List.replicate (1 - (lg_sl ([.ref h])).length) Slot.unset).toArray = ls at hl ⊢
  have hl : lv_has ls 1 [(0, .ref h)] := hl
  refine lv_aload_n hx hb dX1_init_0 rfl (lv_at hl 0 rfl) ?_
  refine W.objInit hx hb hown (hts _ q204) (hts _ q28) (hts _ q29) rfl (by rw [hml]; exact hl.1) rfl dX1_init_1 (Nat.le_of_ble_eq_true rfl) (Nat.le_of_ble_eq_true rfl) ?_
  refine W.eq (g2 := F0 m 4 ls []) rfl ?_
  refine lv_aload_n hx hb dX1_init_4 rfl (lv_at hl 0 rfl) ?_
  refine lv_iconst (v := nI 0) hx hb dX1_init_5 (by decide) ?_
  refine va_put (D := D) (ci := 1) (v := .int (nI 0)) (ty := .int) (C := RX1) (T := TX1) (N := 10) hx hb hts in_X1 tyX1 tyX1_ok nmX1 hown hK hP hD hS 0 rfl rfl 0 (by decide) (hts _ q205) (fun _ h9 => h9) rfl (by decide +kernel) rfl rfl (Nat.le_of_ble_eq_true rfl) dX1_init_6 (fun H locs hP hD hS => ?_)
  have hP : va_P D cLs [(h, .inr (1, [.int (nI 0), .null, .null, .null, .null, .null, .null, .null, .null, .null]))] H := hP
  have hD : va_D A [(h, .inr (1, [.int (nI 0), .null, .null, .null, .null, .null, .null, .null, .null, .null]))] := hD
  refine lv_aload_n hx hb dX1_init_9 rfl (lv_at hl 0 rfl) ?_
  refine lv_sipush (v := nI 192) hx hb dX1_init_10 (by decide) ?_
  refine va_newa (atype := .boolean) (ty := .boolean) (n := nI 192) (a0 := (192, .inl (fun _ => 0))) (N' := 192) hx hb (hts _ q96) rfl hK hP hD hS hA (fun _ => rfl) (by decide) (by decide) (by decide) (Nat.le_of_ble_eq_true rfl) (Nat.le_of_ble_eq_true rfl) dX1_init_13 (fun q1 c1 H hK hP hD hS => ?_)
  refine W.widen (k := 1) (n := 192) (Nat.le_of_ble_eq_true rfl) (Nat.le_of_ble_eq_true rfl) ?_
  have hP : va_P D cLs [(h, .inr (1, [.int (nI 0), .null, .null, .null, .null, .null, .null, .null, .null, .null])), (q1, .inl (c1, 192, .inl (fun _ => 0)))] H := hP
  have hD : va_D A [(h, .inr (1, [.int (nI 0), .null, .null, .null, .null, .null, .null, .null, .null, .null])), (q1, .inl (c1, 192, .inl (fun _ => 0)))] := hD
  refine va_put (D := D) (ci := 1) (v := .ref q1) (ty := (.array .boolean)) (C := RX1) (T := TX1) (N := 10) hx hb hts in_X1 tyX1 tyX1_ok nmX1 hown hK hP hD hS 0 rfl rfl 1 (by decide) (hts _ q206) (fun _ h9 => h9) rfl (by decide +kernel) rfl rfl (Nat.le_of_ble_eq_true rfl) dX1_init_15 (fun H locs hP hD hS => ?_)
  have hP : va_P D cLs [(h, .inr (1, [.int (nI 0), .ref q1, .null, .null, .null, .null, .null, .null, .null, .null])), (q1, .inl (c1, 192, .inl (fun _ => 0)))] H := hP
  have hD : va_D A [(h, .inr (1, [.int (nI 0), .ref q1, .null, .null, .null, .null, .null, .null, .null, .null])), (q1, .inl (c1, 192, .inl (fun _ => 0)))] := hD
  refine lv_aload_n hx hb dX1_init_18 rfl (lv_at hl 0 rfl) ?_
  refine lv_sipush (v := nI 192) hx hb dX1_init_19 (by decide) ?_
  refine va_newa (atype := .int) (ty := .int) (n := nI 192) (a0 := (192, .inl (fun _ => 0))) (N' := 192) hx hb (hts _ q95) rfl hK hP hD hS hA (fun _ => rfl) (by decide) (by decide) (by decide) (Nat.le_of_ble_eq_true rfl) (Nat.le_of_ble_eq_true rfl) dX1_init_22 (fun q2 c2 H hK hP hD hS => ?_)
  refine W.widen (k := 2) (n := 384) (Nat.le_of_ble_eq_true rfl) (Nat.le_of_ble_eq_true rfl) ?_
  have hP : va_P D cLs [(h, .inr (1, [.int (nI 0), .ref q1, .null, .null, .null, .null, .null, .null, .null, .null])), (q1, .inl (c1, 192, .inl (fun _ => 0))), (q2, .inl (c2, 192, .inl (fun _ => 0)))] H := hP
  have hD : va_D A [(h, .inr (1, [.int (nI 0), .ref q1, .null, .null, .null, .null, .null, .null, .null, .null])), (q1, .inl (c1, 192, .inl (fun _ => 0))), (q2, .inl (c2, 192, .inl (fun _ => 0)))] := hD
  refine va_put (D := D) (ci := 1) (v := .ref q2) (ty := (.array .int)) (C := RX1) (T := TX1) (N := 10) hx hb hts in_X1 tyX1 tyX1_ok nmX1 hown hK hP hD hS 0 rfl rfl 2 (by decide) (hts _ q207) (fun _ h9 => h9) rfl (by decide +kernel) rfl rfl (Nat.le_of_ble_eq_true rfl) dX1_init_24 (fun H locs hP hD hS => ?_)
  have hP : va_P D cLs [(h, .inr (1, [.int (nI 0), .ref q1, .ref q2, .null, .null, .null, .null, .null, .null, .null])), (q1, .inl (c1, 192, .inl (fun _ => 0))), (q2, .inl (c2, 192, .inl (fun _ => 0)))] H := hP
  have hD : va_D A [(h, .inr (1, [.int (nI 0), .ref q1, .ref q2, .null, .null, .null, .null, .null, .null, .null])), (q1, .inl (c1, 192, .inl (fun _ => 0))), (q2, .inl (c2, 192, .inl (fun _ => 0)))] := hD
  refine lv_aload_n hx hb dX1_init_27 rfl (lv_at hl 0 rfl) ?_
  refine lv_bipush (v := nI 6) hx hb dX1_init_28 (by decide) ?_
  refine va_newa (atype := .int) (ty := .int) (n := nI 6) (a0 := (6, .inl (fun _ => 0))) (N' := 6) hx hb (hts _ q95) rfl hK hP hD hS hA (fun _ => rfl) (by decide) (by decide) (by decide) (Nat.le_of_ble_eq_true rfl) (Nat.le_of_ble_eq_true rfl) dX1_init_30 (fun q3 c3 H hK hP hD hS => ?_)
  refine W.widen (k := 3) (n := 390) (Nat.le_of_ble_eq_true rfl) (Nat.le_of_ble_eq_true rfl) ?_
  have hP : va_P D cLs [(h, .inr (1, [.int (nI 0), .ref q1, .ref q2, .null, .null, .null, .null, .null, .null, .null])), (q1, .inl (c1, 192, .inl (fun _ => 0))), (q2, .inl (c2, 192, .inl (fun _ => 0))), (q3, .inl (c3, 6, .inl (fun _ => 0)))] H := hP
  have hD : va_D A [(h, .inr (1, [.int (nI 0), .ref q1, .ref q2, .null, .null, .null, .null, .null, .null, .null])), (q1, .inl (c1, 192, .inl (fun _ => 0))), (q2, .inl (c2, 192, .inl (fun _ => 0))), (q3, .inl (c3, 6, .inl (fun _ => 0)))] := hD
  refine va_put (D := D) (ci := 1) (v := .ref q3) (ty := (.array .int)) (C := RX1) (T := TX1) (N := 10) hx hb hts in_X1 tyX1 tyX1_ok nmX1 hown hK hP hD hS 0 rfl rfl 3 (by decide) (hts _ q208) (fun _ h9 => h9) rfl (by decide +kernel) rfl rfl (Nat.le_of_ble_eq_true rfl) dX1_init_32 (fun H locs hP hD hS => ?_)
  have hP : va_P D cLs [(h, .inr (1, [.int (nI 0), .ref q1, .ref q2, .ref q3, .null, .null, .null, .null, .null, .null])), (q1, .inl (c1, 192, .inl (fun _ => 0))), (q2, .inl (c2, 192, .inl (fun _ => 0))), (q3, .inl (c3, 6, .inl (fun _ => 0)))] H := hP
  have hD : va_D A [(h, .inr (1, [.int (nI 0), .ref q1, .ref q2, .ref q3, .null, .null, .null, .null, .null, .null])), (q1, .inl (c1, 192, .inl (fun _ => 0))), (q2, .inl (c2, 192, .inl (fun _ => 0))), (q3, .inl (c3, 6, .inl (fun _ => 0)))] := hD
  refine lv_aload_n hx hb dX1_init_35 rfl (lv_at hl 0 rfl) ?_
  refine lv_iconst (v := nI 4) hx hb dX1_init_36 (by decide) ?_
  refine va_newa (atype := .boolean) (ty := .boolean) (n := nI 4) (a0 := (4, .inl (fun _ => 0))) (N' := 4) hx hb (hts _ q96) rfl hK hP hD hS hA (fun _ => rfl) (by decide) (by decide) (by decide) (Nat.le_of_ble_eq_true rfl) (Nat.le_of_ble_eq_true rfl) dX1_init_37 (fun q4 c4 H hK hP hD hS => ?_)
  refine W.widen (k := 4) (n := 394) (Nat.le_of_ble_eq_true rfl) (Nat.le_of_ble_eq_true rfl) ?_
  have hP : va_P D cLs [(h, .inr (1, [.int (nI 0), .ref q1, .ref q2, .ref q3, .null, .null, .null, .null, .null, .null])), (q1, .inl (c1, 192, .inl (fun _ => 0))), (q2, .inl (c2, 192, .inl (fun _ => 0))), (q3, .inl (c3, 6, .inl (fun _ => 0))), (q4, .inl (c4, 4, .inl (fun _ => 0)))] H := hP
  have hD : va_D A [(h, .inr (1, [.int (nI 0), .ref q1, .ref q2, .ref q3, .null, .null, .null, .null, .null, .null])), (q1, .inl (c1, 192, .inl (fun _ => 0))), (q2, .inl (c2, 192, .inl (fun _ => 0))), (q3, .inl (c3, 6, .inl (fun _ => 0))), (q4, .inl (c4, 4, .inl (fun _ => 0)))] := hD
  refine va_put (D := D) (ci := 1) (v := .ref q4) (ty := (.array .boolean)) (C := RX1) (T := TX1) (N := 10) hx hb hts in_X1 tyX1 tyX1_ok nmX1 hown hK hP hD hS 0 rfl rfl 4 (by decide) (hts _ q209) (fun _ h9 => h9) rfl (by decide +kernel) rfl rfl (Nat.le_of_ble_eq_true rfl) dX1_init_39 (fun H locs hP hD hS => ?_)
  have hP : va_P D cLs [(h, .inr (1, [.int (nI 0), .ref q1, .ref q2, .ref q3, .ref q4, .null, .null, .null, .null, .null])), (q1, .inl (c1, 192, .inl (fun _ => 0))), (q2, .inl (c2, 192, .inl (fun _ => 0))), (q3, .inl (c3, 6, .inl (fun _ => 0))), (q4, .inl (c4, 4, .inl (fun _ => 0)))] H := hP
  have hD : va_D A [(h, .inr (1, [.int (nI 0), .ref q1, .ref q2, .ref q3, .ref q4, .null, .null, .null, .null, .null])), (q1, .inl (c1, 192, .inl (fun _ => 0))), (q2, .inl (c2, 192, .inl (fun _ => 0))), (q3, .inl (c3, 6, .inl (fun _ => 0))), (q4, .inl (c4, 4, .inl (fun _ => 0)))] := hD
  refine lv_aload_n hx hb dX1_init_42 rfl (lv_at hl 0 rfl) ?_
  refine lv_sipush (v := nI 128) hx hb dX1_init_43 (by decide) ?_
  refine va_newa (atype := .boolean) (ty := .boolean) (n := nI 128) (a0 := (128, .inl (fun _ => 0))) (N' := 128) hx hb (hts _ q96) rfl hK hP hD hS hA (fun _ => rfl) (by decide) (by decide) (by decide) (Nat.le_of_ble_eq_true rfl) (Nat.le_of_ble_eq_true rfl) dX1_init_46 (fun q5 c5 H hK hP hD hS => ?_)
  refine W.widen (k := 5) (n := 522) (Nat.le_of_ble_eq_true rfl) (Nat.le_of_ble_eq_true rfl) ?_
  have hP : va_P D cLs [(h, .inr (1, [.int (nI 0), .ref q1, .ref q2, .ref q3, .ref q4, .null, .null, .null, .null, .null])), (q1, .inl (c1, 192, .inl (fun _ => 0))), (q2, .inl (c2, 192, .inl (fun _ => 0))), (q3, .inl (c3, 6, .inl (fun _ => 0))), (q4, .inl (c4, 4, .inl (fun _ => 0))), (q5, .inl (c5, 128, .inl (fun _ => 0)))] H := hP
  have hD : va_D A [(h, .inr (1, [.int (nI 0), .ref q1, .ref q2, .ref q3, .ref q4, .null, .null, .null, .null, .null])), (q1, .inl (c1, 192, .inl (fun _ => 0))), (q2, .inl (c2, 192, .inl (fun _ => 0))), (q3, .inl (c3, 6, .inl (fun _ => 0))), (q4, .inl (c4, 4, .inl (fun _ => 0))), (q5, .inl (c5, 128, .inl (fun _ => 0)))] := hD
  refine va_put (D := D) (ci := 1) (v := .ref q5) (ty := (.array .boolean)) (C := RX1) (T := TX1) (N := 10) hx hb hts in_X1 tyX1 tyX1_ok nmX1 hown hK hP hD hS 0 rfl rfl 5 (by decide) (hts _ q210) (fun _ h9 => h9) rfl (by decide +kernel) rfl rfl (Nat.le_of_ble_eq_true rfl) dX1_init_48 (fun H locs hP hD hS => ?_)
  have hP : va_P D cLs [(h, .inr (1, [.int (nI 0), .ref q1, .ref q2, .ref q3, .ref q4, .ref q5, .null, .null, .null, .null])), (q1, .inl (c1, 192, .inl (fun _ => 0))), (q2, .inl (c2, 192, .inl (fun _ => 0))), (q3, .inl (c3, 6, .inl (fun _ => 0))), (q4, .inl (c4, 4, .inl (fun _ => 0))), (q5, .inl (c5, 128, .inl (fun _ => 0)))] H := hP
  have hD : va_D A [(h, .inr (1, [.int (nI 0), .ref q1, .ref q2, .ref q3, .ref q4, .ref q5, .null, .null, .null, .null])), (q1, .inl (c1, 192, .inl (fun _ => 0))), (q2, .inl (c2, 192, .inl (fun _ => 0))), (q3, .inl (c3, 6, .inl (fun _ => 0))), (q4, .inl (c4, 4, .inl (fun _ => 0))), (q5, .inl (c5, 128, .inl (fun _ => 0)))] := hD
  refine lv_aload_n hx hb dX1_init_51 rfl (lv_at hl 0 rfl) ?_
  refine lv_sipush (v := nI 128) hx hb dX1_init_52 (by decide) ?_
  refine va_newa (atype := .int) (ty := .int) (n := nI 128) (a0 := (128, .inl (fun _ => 0))) (N' := 128) hx hb (hts _ q95) rfl hK hP hD hS hA (fun _ => rfl) (by decide) (by decide) (by decide) (Nat.le_of_ble_eq_true rfl) (Nat.le_of_ble_eq_true rfl) dX1_init_55 (fun q6 c6 H hK hP hD hS => ?_)
  refine W.widen (k := 6) (n := 650) (Nat.le_of_ble_eq_true rfl) (Nat.le_of_ble_eq_true rfl) ?_
  have hP : va_P D cLs [(h, .inr (1, [.int (nI 0), .ref q1, .ref q2, .ref q3, .ref q4, .ref q5, .null, .null, .null, .null])), (q1, .inl (c1, 192, .inl (fun _ => 0))), (q2, .inl (c2, 192, .inl (fun _ => 0))), (q3, .inl (c3, 6, .inl (fun _ => 0))), (q4, .inl (c4, 4, .inl (fun _ => 0))), (q5, .inl (c5, 128, .inl (fun _ => 0))), (q6, .inl (c6, 128, .inl (fun _ => 0)))] H := hP
  have hD : va_D A [(h, .inr (1, [.int (nI 0), .ref q1, .ref q2, .ref q3, .ref q4, .ref q5, .null, .null, .null, .null])), (q1, .inl (c1, 192, .inl (fun _ => 0))), (q2, .inl (c2, 192, .inl (fun _ => 0))), (q3, .inl (c3, 6, .inl (fun _ => 0))), (q4, .inl (c4, 4, .inl (fun _ => 0))), (q5, .inl (c5, 128, .inl (fun _ => 0))), (q6, .inl (c6, 128, .inl (fun _ => 0)))] := hD
  refine va_put (D := D) (ci := 1) (v := .ref q6) (ty := (.array .int)) (C := RX1) (T := TX1) (N := 10) hx hb hts in_X1 tyX1 tyX1_ok nmX1 hown hK hP hD hS 0 rfl rfl 6 (by decide) (hts _ q211) (fun _ h9 => h9) rfl (by decide +kernel) rfl rfl (Nat.le_of_ble_eq_true rfl) dX1_init_57 (fun H locs hP hD hS => ?_)
  have hP : va_P D cLs [(h, .inr (1, [.int (nI 0), .ref q1, .ref q2, .ref q3, .ref q4, .ref q5, .ref q6, .null, .null, .null])), (q1, .inl (c1, 192, .inl (fun _ => 0))), (q2, .inl (c2, 192, .inl (fun _ => 0))), (q3, .inl (c3, 6, .inl (fun _ => 0))), (q4, .inl (c4, 4, .inl (fun _ => 0))), (q5, .inl (c5, 128, .inl (fun _ => 0))), (q6, .inl (c6, 128, .inl (fun _ => 0)))] H := hP
  have hD : va_D A [(h, .inr (1, [.int (nI 0), .ref q1, .ref q2, .ref q3, .ref q4, .ref q5, .ref q6, .null, .null, .null])), (q1, .inl (c1, 192, .inl (fun _ => 0))), (q2, .inl (c2, 192, .inl (fun _ => 0))), (q3, .inl (c3, 6, .inl (fun _ => 0))), (q4, .inl (c4, 4, .inl (fun _ => 0))), (q5, .inl (c5, 128, .inl (fun _ => 0))), (q6, .inl (c6, 128, .inl (fun _ => 0)))] := hD
  refine lv_aload_n hx hb dX1_init_60 rfl (lv_at hl 0 rfl) ?_
  refine lv_iconst (v := nI 4) hx hb dX1_init_61 (by decide) ?_
  refine va_newa (atype := .int) (ty := .int) (n := nI 4) (a0 := (4, .inl (fun _ => 0))) (N' := 4) hx hb (hts _ q95) rfl hK hP hD hS hA (fun _ => rfl) (by decide) (by decide) (by decide) (Nat.le_of_ble_eq_true rfl) (Nat.le_of_ble_eq_true rfl) dX1_init_62 (fun q7 c7 H hK hP hD hS => ?_)
  refine W.widen (k := 7) (n := 654) (Nat.le_of_ble_eq_true rfl) (Nat.le_of_ble_eq_true rfl) ?_
  have hP : va_P D cLs [(h, .inr (1, [.int (nI 0), .ref q1, .ref q2, .ref q3, .ref q4, .ref q5, .ref q6, .null, .null, .null])), (q1, .inl (c1, 192, .inl (fun _ => 0))), (q2, .inl (c2, 192, .inl (fun _ => 0))), (q3, .inl (c3, 6, .inl (fun _ => 0))), (q4, .inl (c4, 4, .inl (fun _ => 0))), (q5, .inl (c5, 128, .inl (fun _ => 0))), (q6, .inl (c6, 128, .inl (fun _ => 0))), (q7, .inl (c7, 4, .inl (fun _ => 0)))] H := hP
  have hD : va_D A [(h, .inr (1, [.int (nI 0), .ref q1, .ref q2, .ref q3, .ref q4, .ref q5, .ref q6, .null, .null, .null])), (q1, .inl (c1, 192, .inl (fun _ => 0))), (q2, .inl (c2, 192, .inl (fun _ => 0))), (q3, .inl (c3, 6, .inl (fun _ => 0))), (q4, .inl (c4, 4, .inl (fun _ => 0))), (q5, .inl (c5, 128, .inl (fun _ => 0))), (q6, .inl (c6, 128, .inl (fun _ => 0))), (q7, .inl (c7, 4, .inl (fun _ => 0)))] := hD
  refine va_put (D := D) (ci := 1) (v := .ref q7) (ty := (.array .int)) (C := RX1) (T := TX1) (N := 10) hx hb hts in_X1 tyX1 tyX1_ok nmX1 hown hK hP hD hS 0 rfl rfl 7 (by decide) (hts _ q212) (fun _ h9 => h9) rfl (by decide +kernel) rfl rfl (Nat.le_of_ble_eq_true rfl) dX1_init_64 (fun H locs hP hD hS => ?_)
  have hP : va_P D cLs [(h, .inr (1, [.int (nI 0), .ref q1, .ref q2, .ref q3, .ref q4, .ref q5, .ref q6, .ref q7, .null, .null])), (q1, .inl (c1, 192, .inl (fun _ => 0))), (q2, .inl (c2, 192, .inl (fun _ => 0))), (q3, .inl (c3, 6, .inl (fun _ => 0))), (q4, .inl (c4, 4, .inl (fun _ => 0))), (q5, .inl (c5, 128, .inl (fun _ => 0))), (q6, .inl (c6, 128, .inl (fun _ => 0))), (q7, .inl (c7, 4, .inl (fun _ => 0)))] H := hP
  have hD : va_D A [(h, .inr (1, [.int (nI 0), .ref q1, .ref q2, .ref q3, .ref q4, .ref q5, .ref q6, .ref q7, .null, .null])), (q1, .inl (c1, 192, .inl (fun _ => 0))), (q2, .inl (c2, 192, .inl (fun _ => 0))), (q3, .inl (c3, 6, .inl (fun _ => 0))), (q4, .inl (c4, 4, .inl (fun _ => 0))), (q5, .inl (c5, 128, .inl (fun _ => 0))), (q6, .inl (c6, 128, .inl (fun _ => 0))), (q7, .inl (c7, 4, .inl (fun _ => 0)))] := hD
  refine lv_aload_n hx hb dX1_init_67 rfl (lv_at hl 0 rfl) ?_
  refine lv_iconst (v := nI 4) hx hb dX1_init_68 (by decide) ?_
  refine va_newa (atype := .int) (ty := .int) (n := nI 4) (a0 := (4, .inl (fun _ => 0))) (N' := 4) hx hb (hts _ q95) rfl hK hP hD hS hA (fun _ => rfl) (by decide) (by decide) (by decide) (Nat.le_of_ble_eq_true rfl) (Nat.le_of_ble_eq_true rfl) dX1_init_69 (fun q8 c8 H hK hP hD hS => ?_)
  refine W.widen (k := 8) (n := 658) (Nat.le_of_ble_eq_true rfl) (Nat.le_of_ble_eq_true rfl) ?_
  have hP : va_P D cLs [(h, .inr (1, [.int (nI 0), .ref q1, .ref q2, .ref q3, .ref q4, .ref q5, .ref q6, .ref q7, .null, .null])), (q1, .inl (c1, 192, .inl (fun _ => 0))), (q2, .inl (c2, 192, .inl (fun _ => 0))), (q3, .inl (c3, 6, .inl (fun _ => 0))), (q4, .inl (c4, 4, .inl (fun _ => 0))), (q5, .inl (c5, 128, .inl (fun _ => 0))), (q6, .inl (c6, 128, .inl (fun _ => 0))), (q7, .inl (c7, 4, .inl (fun _ => 0))), (q8, .inl (c8, 4, .inl (fun _ => 0)))] H := hP
  have hD : va_D A [(h, .inr (1, [.int (nI 0), .ref q1, .ref q2, .ref q3, .ref q4, .ref q5, .ref q6, .ref q7, .null, .null])), (q1, .inl (c1, 192, .inl (fun _ => 0))), (q2, .inl (c2, 192, .inl (fun _ => 0))), (q3, .inl (c3, 6, .inl (fun _ => 0))), (q4, .inl (c4, 4, .inl (fun _ => 0))), (q5, .inl (c5, 128, .inl (fun _ => 0))), (q6, .inl (c6, 128, .inl (fun _ => 0))), (q7, .inl (c7, 4, .inl (fun _ => 0))), (q8, .inl (c8, 4, .inl (fun _ => 0)))] := hD
  refine va_put (D := D) (ci := 1) (v := .ref q8) (ty := (.array .int)) (C := RX1) (T := TX1) (N := 10) hx hb hts in_X1 tyX1 tyX1_ok nmX1 hown hK hP hD hS 0 rfl rfl 8 (by decide) (hts _ q213) (fun _ h9 => h9) rfl (by decide +kernel) rfl rfl (Nat.le_of_ble_eq_true rfl) dX1_init_71 (fun H locs hP hD hS => ?_)
  have hP : va_P D cLs [(h, .inr (1, [.int (nI 0), .ref q1, .ref q2, .ref q3, .ref q4, .ref q5, .ref q6, .ref q7, .ref q8, .null])), (q1, .inl (c1, 192, .inl (fun _ => 0))), (q2, .inl (c2, 192, .inl (fun _ => 0))), (q3, .inl (c3, 6, .inl (fun _ => 0))), (q4, .inl (c4, 4, .inl (fun _ => 0))), (q5, .inl (c5, 128, .inl (fun _ => 0))), (q6, .inl (c6, 128, .inl (fun _ => 0))), (q7, .inl (c7, 4, .inl (fun _ => 0))), (q8, .inl (c8, 4, .inl (fun _ => 0)))] H := hP
  have hD : va_D A [(h, .inr (1, [.int (nI 0), .ref q1, .ref q2, .ref q3, .ref q4, .ref q5, .ref q6, .ref q7, .ref q8, .null])), (q1, .inl (c1, 192, .inl (fun _ => 0))), (q2, .inl (c2, 192, .inl (fun _ => 0))), (q3, .inl (c3, 6, .inl (fun _ => 0))), (q4, .inl (c4, 4, .inl (fun _ => 0))), (q5, .inl (c5, 128, .inl (fun _ => 0))), (q6, .inl (c6, 128, .inl (fun _ => 0))), (q7, .inl (c7, 4, .inl (fun _ => 0))), (q8, .inl (c8, 4, .inl (fun _ => 0)))] := hD
  refine lv_aload_n hx hb dX1_init_74 rfl (lv_at hl 0 rfl) ?_
  refine lv_iconst (v := nI 4) hx hb dX1_init_75 (by decide) ?_
  refine va_newa (atype := .int) (ty := .int) (n := nI 4) (a0 := (4, .inl (fun _ => 0))) (N' := 4) hx hb (hts _ q95) rfl hK hP hD hS hA (fun _ => rfl) (by decide) (by decide) (by decide) (Nat.le_of_ble_eq_true rfl) (Nat.le_of_ble_eq_true rfl) dX1_init_76 (fun q9 c9 H hK hP hD hS => ?_)
  refine W.widen (k := 9) (n := 662) (Nat.le_of_ble_eq_true rfl) (Nat.le_of_ble_eq_true rfl) ?_
  have hP : va_P D cLs [(h, .inr (1, [.int (nI 0), .ref q1, .ref q2, .ref q3, .ref q4, .ref q5, .ref q6, .ref q7, .ref q8, .null])), (q1, .inl (c1, 192, .inl (fun _ => 0))), (q2, .inl (c2, 192, .inl (fun _ => 0))), (q3, .inl (c3, 6, .inl (fun _ => 0))), (q4, .inl (c4, 4, .inl (fun _ => 0))), (q5, .inl (c5, 128, .inl (fun _ => 0))), (q6, .inl (c6, 128, .inl (fun _ => 0))), (q7, .inl (c7, 4, .inl (fun _ => 0))), (q8, .inl (c8, 4, .inl (fun _ => 0))), (q9, .inl (c9, 4, .inl (fun _ => 0)))] H := hP
  have hD : va_D A [(h, .inr (1, [.int (nI 0), .ref q1, .ref q2, .ref q3, .ref q4, .ref q5, .ref q6, .ref q7, .ref q8, .null])), (q1, .inl (c1, 192, .inl (fun _ => 0))), (q2, .inl (c2, 192, .inl (fun _ => 0))), (q3, .inl (c3, 6, .inl (fun _ => 0))), (q4, .inl (c4, 4, .inl (fun _ => 0))), (q5, .inl (c5, 128, .inl (fun _ => 0))), (q6, .inl (c6, 128, .inl (fun _ => 0))), (q7, .inl (c7, 4, .inl (fun _ => 0))), (q8, .inl (c8, 4, .inl (fun _ => 0))), (q9, .inl (c9, 4, .inl (fun _ => 0)))] := hD
  refine va_put (D := D) (ci := 1) (v := .ref q9) (ty := (.array .int)) (C := RX1) (T := TX1) (N := 10) hx hb hts in_X1 tyX1 tyX1_ok nmX1 hown hK hP hD hS 0 rfl rfl 9 (by decide) (hts _ q214) (fun _ h9 => h9) rfl (by decide +kernel) rfl rfl (Nat.le_of_ble_eq_true rfl) dX1_init_78 (fun H locs hP hD hS => ?_)
  have hP : va_P D cLs [(h, .inr (1, [.int (nI 0), .ref q1, .ref q2, .ref q3, .ref q4, .ref q5, .ref q6, .ref q7, .ref q8, .ref q9])), (q1, .inl (c1, 192, .inl (fun _ => 0))), (q2, .inl (c2, 192, .inl (fun _ => 0))), (q3, .inl (c3, 6, .inl (fun _ => 0))), (q4, .inl (c4, 4, .inl (fun _ => 0))), (q5, .inl (c5, 128, .inl (fun _ => 0))), (q6, .inl (c6, 128, .inl (fun _ => 0))), (q7, .inl (c7, 4, .inl (fun _ => 0))), (q8, .inl (c8, 4, .inl (fun _ => 0))), (q9, .inl (c9, 4, .inl (fun _ => 0)))] H := hP
  have hD : va_D A [(h, .inr (1, [.int (nI 0), .ref q1, .ref q2, .ref q3, .ref q4, .ref q5, .ref q6, .ref q7, .ref q8, .ref q9])), (q1, .inl (c1, 192, .inl (fun _ => 0))), (q2, .inl (c2, 192, .inl (fun _ => 0))), (q3, .inl (c3, 6, .inl (fun _ => 0))), (q4, .inl (c4, 4, .inl (fun _ => 0))), (q5, .inl (c5, 128, .inl (fun _ => 0))), (q6, .inl (c6, 128, .inl (fun _ => 0))), (q7, .inl (c7, 4, .inl (fun _ => 0))), (q8, .inl (c8, 4, .inl (fun _ => 0))), (q9, .inl (c9, 4, .inl (fun _ => 0)))] := hD
  obtain ⟨ad, ead⟩ : ∃ z : Nat → Nat, z = fun k => ([0, q1, q2, q3, q4, q5, q6, q7, q8, q9] : List Nat).getD k 0 := ⟨_, rfl⟩
  obtain ⟨d, ed⟩ : ∃ z : Nat → ClassId, z = fun k => ([c1, c1, c2, c3, c4, c5, c6, c7, c8, c9] : List ClassId).getD k c1 := ⟨_, rfl⟩
  have hP : va_P D cLs (WM h ad d (fun _ _ => 0)) H := by rw [ead, ed]; exact hP
  have hD : va_D A (WM h ad d (fun _ _ => 0)) := by rw [ead, ed]; exact hD
  have hK : va_K D cLs (tM d) s := by rw [ed]; exact hK
  clear ead ed
  exact W.vret hx hb hr (fun t ht hW => ⟨⟨(ad, d, fun _ _ => 0), rfl, rfl, by rw [ht]; exact hP, va_K.moved hW.alike hK, hD⟩, hS.F ht⟩) hS.2.2 dX1_init_81 hlk
end
section
set_option maxRecDepth 100000
def f0X : List Value := [.null, .null, .null, .null, .null, .int 0, .null, .int 0, .null, .null, .null, .null, .null, .null, .null, .null, .null, .null, .null, .null, .int 0]
/-- MeldLog's state when it is made -/
def INX (σ : ST) : Prop := σ 5 0 = nI 512 ∧ (∀ j, j < 512 → σ 6 j = nI (511 - j)) ∧ (∀ j, j < 6 → σ 8 j = -1) ∧ σ 7 0 = nI 0 ∧ ∀ t, t < 4 → σ 9 t = 0
def BIX (D : va_G) (A : Nat → Prop) (h : Nat) (u : (Nat → Nat) × (Nat → ClassId) × ST) (t : State) : Prop := va_P D cLs (WX h u.1 u.2.1 u.2.2) t.heap ∧ va_K D cLs (tX u.2.1) t ∧ va_D A (WX h u.1 u.2.1 u.2.2)
set_option maxHeartbeats 4000000 in
set_option maxRecDepth 100000 in
theorem x_init (l : Launch) (D : va_G) (h sz : Nat) : Met l yX0_init (ws_ yX0_init cX0_init 2 none) ({ frames := 1, cells := 18, slots := 3730, locals := 12 }) (va_Pc [.ref h] (fun U => U.heap.size = sz ∧ va_P D cLs [(h, .inr (0, f0X))] U.heap ∧ va_K D cLs [] U ∧ va_D (fun _ => True) [(h, .inr (0, f0X))])) (va_Qv (fun u => INX u.2.2) (BIX D (va_A [(h, .inr (0, f0X))] sz) h) (va_A [(h, .inr (0, f0X))] sz)) 18 3730 (va_A [(h, .inr (0, f0X))] sz) := by
  refine Met.ofW (cc := cX0_init) (maxL := 2) (ret := none) (by decide +kernel) rfl ?_
  intro p e s m args below meth c s₁ B hml hv
  obtain ⟨rfl, hsz, hP, hK, hD0⟩ := hv
  have hx := B.exec
  have hb := B.bytes
  have hr := B.returns
  have hts := atoms_spec (ws := ws_ yX0_init cX0_init 2 none) B.pre
  have hts : ∀ w ∈ lw_all, w.before _ s = true := fun w h => hts w (List.mem_cons_of_mem _ h)
  have hown : s.vm.findClass RX0 = some m.cls := findClass_of_methodNamed B.named
  have hlk := B.notSynchronized
  have hin : meth.name = "<init>" := (name_of_methodNamed B.named B.method).1
  subst hsz
  have hD := hD0.self (sz := s.heap.size)
  generalize hAe : va_A [(h, .inr (0, f0X))] s.heap.size = A at hD ⊢
  have hA : ∀ q : Nat, s.heap.size ≤ q → A q := fun q h => by rw [← hAe]; exact Or.inr h
  have hS : va_S A s.heap s.heap [] := va_S.rf
  have hP : va_P D cLs [(h, .inr (0, [.null, .null, .null, .null, .null, .int 0, .null, .int 0, .null, .null, .null, .null, .null, .null, .null, .null, .null, .null, .null, .null, .int 0]))] s.heap := hP
  have hD : va_D A [(h, .inr (0, [.null, .null, .null, .null, .null, .int 0, .null, .int 0, .null, .null, .null, .null, .null, .null, .null, .null, .null, .null, .null, .null, .int 0]))] := hD
  have hl := lv_entry ([.ref h]) (n := 2) (Nat.le_of_ble_eq_true rfl)
  rw [lg_entry_eq]
  generalize (lg_sl ([.ref h]) ++ List.replicate (2 - (lg_sl ([.ref h])).length) Slot.unset).toArray = ls at hl ⊢
  have hl : lv_has ls 2 [(0, .ref h)] := hl
  refine lv_aload_n hx hb dX0_init_0 rfl (lv_at hl 0 rfl) ?_
  refine W.objInit hx hb hown (hts _ q27) (hts _ q28) (hts _ q29) rfl (by rw [hml]; exact hl.1) rfl dX0_init_1 (Nat.le_of_ble_eq_true rfl) (Nat.le_of_ble_eq_true rfl) ?_
  refine W.eq (g2 := F0 m 4 ls []) rfl ?_
  refine lv_aload_n hx hb dX0_init_4 rfl (lv_at hl 0 rfl) ?_
  refine lv_sipush (v := nI 1024) hx hb dX0_init_5 (by decide) ?_
  refine va_newa (atype := .short) (ty := .short) (n := nI 1024) (a0 := (1024, .inl (fun _ => 0))) (N' := 1024) hx hb (hts _ q94) rfl hK hP hD hS hA (fun _ => rfl) (by decide) (by decide) (by decide) (Nat.le_of_ble_eq_true rfl) (Nat.le_of_ble_eq_true rfl) dX0_init_8 (fun q0 c0 H hK hP hD hS => ?_)
  refine W.widen (k := 1) (n := 1024) (Nat.le_of_ble_eq_true rfl) (Nat.le_of_ble_eq_true rfl) ?_
  have hP : va_P D cLs [(h, .inr (0, [.null, .null, .null, .null, .null, .int 0, .null, .int 0, .null, .null, .null, .null, .null, .null, .null, .null, .null, .null, .null, .null, .int 0])), (q0, .inl (c0, 1024, .inl (fun _ => 0)))] H := hP
  have hD : va_D A [(h, .inr (0, [.null, .null, .null, .null, .null, .int 0, .null, .int 0, .null, .null, .null, .null, .null, .null, .null, .null, .null, .null, .null, .null, .int 0])), (q0, .inl (c0, 1024, .inl (fun _ => 0)))] := hD
  refine va_putF (D := D) (ci := 0) (v := .ref q0) (ty := (.array .short)) (C := RX0) (T := TX0) (N := 21) hx hb hts in_X0 tyX0 tyX0_ok nmX0 hown hK hP hD hS 0 rfl rfl 0 (by decide) (hts _ q30) (fun _ h9 => h9) rfl hin rfl (by decide +kernel) rfl rfl (Nat.le_of_ble_eq_true rfl) dX0_init_10 (fun H locs hP hD hS => ?_)
  have hP : va_P D cLs [(h, .inr (0, [.ref q0, .null, .null, .null, .null, .int 0, .null, .int 0, .null, .null, .null, .null, .null, .null, .null, .null, .null, .null, .null, .null, .int 0])), (q0, .inl (c0, 1024, .inl (fun _ => 0)))] H := hP
  have hD : va_D A [(h, .inr (0, [.ref q0, .null, .null, .null, .null, .int 0, .null, .int 0, .null, .null, .null, .null, .null, .null, .null, .null, .null, .null, .null, .null, .int 0])), (q0, .inl (c0, 1024, .inl (fun _ => 0)))] := hD
  refine lv_aload_n hx hb dX0_init_13 rfl (lv_at hl 0 rfl) ?_
  refine lv_sipush (v := nI 512) hx hb dX0_init_14 (by decide) ?_
  refine va_newa (atype := .int) (ty := .int) (n := nI 512) (a0 := (512, .inl (fun _ => 0))) (N' := 512) hx hb (hts _ q95) rfl hK hP hD hS hA (fun _ => rfl) (by decide) (by decide) (by decide) (Nat.le_of_ble_eq_true rfl) (Nat.le_of_ble_eq_true rfl) dX0_init_17 (fun q1 c1 H hK hP hD hS => ?_)
  refine W.widen (k := 2) (n := 1536) (Nat.le_of_ble_eq_true rfl) (Nat.le_of_ble_eq_true rfl) ?_
  have hP : va_P D cLs [(h, .inr (0, [.ref q0, .null, .null, .null, .null, .int 0, .null, .int 0, .null, .null, .null, .null, .null, .null, .null, .null, .null, .null, .null, .null, .int 0])), (q0, .inl (c0, 1024, .inl (fun _ => 0))), (q1, .inl (c1, 512, .inl (fun _ => 0)))] H := hP
  have hD : va_D A [(h, .inr (0, [.ref q0, .null, .null, .null, .null, .int 0, .null, .int 0, .null, .null, .null, .null, .null, .null, .null, .null, .null, .null, .null, .null, .int 0])), (q0, .inl (c0, 1024, .inl (fun _ => 0))), (q1, .inl (c1, 512, .inl (fun _ => 0)))] := hD
  refine va_putF (D := D) (ci := 0) (v := .ref q1) (ty := (.array .int)) (C := RX0) (T := TX0) (N := 21) hx hb hts in_X0 tyX0 tyX0_ok nmX0 hown hK hP hD hS 0 rfl rfl 1 (by decide) (hts _ q31) (fun _ h9 => h9) rfl hin rfl (by decide +kernel) rfl rfl (Nat.le_of_ble_eq_true rfl) dX0_init_19 (fun H locs hP hD hS => ?_)
  have hP : va_P D cLs [(h, .inr (0, [.ref q0, .ref q1, .null, .null, .null, .int 0, .null, .int 0, .null, .null, .null, .null, .null, .null, .null, .null, .null, .null, .null, .null, .int 0])), (q0, .inl (c0, 1024, .inl (fun _ => 0))), (q1, .inl (c1, 512, .inl (fun _ => 0)))] H := hP
  have hD : va_D A [(h, .inr (0, [.ref q0, .ref q1, .null, .null, .null, .int 0, .null, .int 0, .null, .null, .null, .null, .null, .null, .null, .null, .null, .null, .null, .null, .int 0])), (q0, .inl (c0, 1024, .inl (fun _ => 0))), (q1, .inl (c1, 512, .inl (fun _ => 0)))] := hD
  refine lv_aload_n hx hb dX0_init_22 rfl (lv_at hl 0 rfl) ?_
  refine lv_sipush (v := nI 512) hx hb dX0_init_23 (by decide) ?_
  refine va_newa (atype := .boolean) (ty := .boolean) (n := nI 512) (a0 := (512, .inl (fun _ => 0))) (N' := 512) hx hb (hts _ q96) rfl hK hP hD hS hA (fun _ => rfl) (by decide) (by decide) (by decide) (Nat.le_of_ble_eq_true rfl) (Nat.le_of_ble_eq_true rfl) dX0_init_26 (fun q2 c2 H hK hP hD hS => ?_)
  refine W.widen (k := 3) (n := 2048) (Nat.le_of_ble_eq_true rfl) (Nat.le_of_ble_eq_true rfl) ?_
  have hP : va_P D cLs [(h, .inr (0, [.ref q0, .ref q1, .null, .null, .null, .int 0, .null, .int 0, .null, .null, .null, .null, .null, .null, .null, .null, .null, .null, .null, .null, .int 0])), (q0, .inl (c0, 1024, .inl (fun _ => 0))), (q1, .inl (c1, 512, .inl (fun _ => 0))), (q2, .inl (c2, 512, .inl (fun _ => 0)))] H := hP
  have hD : va_D A [(h, .inr (0, [.ref q0, .ref q1, .null, .null, .null, .int 0, .null, .int 0, .null, .null, .null, .null, .null, .null, .null, .null, .null, .null, .null, .null, .int 0])), (q0, .inl (c0, 1024, .inl (fun _ => 0))), (q1, .inl (c1, 512, .inl (fun _ => 0))), (q2, .inl (c2, 512, .inl (fun _ => 0)))] := hD
  refine va_putF (D := D) (ci := 0) (v := .ref q2) (ty := (.array .boolean)) (C := RX0) (T := TX0) (N := 21) hx hb hts in_X0 tyX0 tyX0_ok nmX0 hown hK hP hD hS 0 rfl rfl 2 (by decide) (hts _ q32) (fun _ h9 => h9) rfl hin rfl (by decide +kernel) rfl rfl (Nat.le_of_ble_eq_true rfl) dX0_init_28 (fun H locs hP hD hS => ?_)
  have hP : va_P D cLs [(h, .inr (0, [.ref q0, .ref q1, .ref q2, .null, .null, .int 0, .null, .int 0, .null, .null, .null, .null, .null, .null, .null, .null, .null, .null, .null, .null, .int 0])), (q0, .inl (c0, 1024, .inl (fun _ => 0))), (q1, .inl (c1, 512, .inl (fun _ => 0))), (q2, .inl (c2, 512, .inl (fun _ => 0)))] H := hP
  have hD : va_D A [(h, .inr (0, [.ref q0, .ref q1, .ref q2, .null, .null, .int 0, .null, .int 0, .null, .null, .null, .null, .null, .null, .null, .null, .null, .null, .null, .null, .int 0])), (q0, .inl (c0, 1024, .inl (fun _ => 0))), (q1, .inl (c1, 512, .inl (fun _ => 0))), (q2, .inl (c2, 512, .inl (fun _ => 0)))] := hD
  refine lv_aload_n hx hb dX0_init_31 rfl (lv_at hl 0 rfl) ?_
  refine lv_sipush (v := nI 512) hx hb dX0_init_32 (by decide) ?_
  refine va_newa (atype := .int) (ty := .int) (n := nI 512) (a0 := (512, .inl (fun _ => 0))) (N' := 512) hx hb (hts _ q95) rfl hK hP hD hS hA (fun _ => rfl) (by decide) (by decide) (by decide) (Nat.le_of_ble_eq_true rfl) (Nat.le_of_ble_eq_true rfl) dX0_init_35 (fun q3 c3 H hK hP hD hS => ?_)
  refine W.widen (k := 4) (n := 2560) (Nat.le_of_ble_eq_true rfl) (Nat.le_of_ble_eq_true rfl) ?_
  have hP : va_P D cLs [(h, .inr (0, [.ref q0, .ref q1, .ref q2, .null, .null, .int 0, .null, .int 0, .null, .null, .null, .null, .null, .null, .null, .null, .null, .null, .null, .null, .int 0])), (q0, .inl (c0, 1024, .inl (fun _ => 0))), (q1, .inl (c1, 512, .inl (fun _ => 0))), (q2, .inl (c2, 512, .inl (fun _ => 0))), (q3, .inl (c3, 512, .inl (fun _ => 0)))] H := hP
  have hD : va_D A [(h, .inr (0, [.ref q0, .ref q1, .ref q2, .null, .null, .int 0, .null, .int 0, .null, .null, .null, .null, .null, .null, .null, .null, .null, .null, .null, .null, .int 0])), (q0, .inl (c0, 1024, .inl (fun _ => 0))), (q1, .inl (c1, 512, .inl (fun _ => 0))), (q2, .inl (c2, 512, .inl (fun _ => 0))), (q3, .inl (c3, 512, .inl (fun _ => 0)))] := hD
  refine va_putF (D := D) (ci := 0) (v := .ref q3) (ty := (.array .int)) (C := RX0) (T := TX0) (N := 21) hx hb hts in_X0 tyX0 tyX0_ok nmX0 hown hK hP hD hS 0 rfl rfl 3 (by decide) (hts _ q33) (fun _ h9 => h9) rfl hin rfl (by decide +kernel) rfl rfl (Nat.le_of_ble_eq_true rfl) dX0_init_37 (fun H locs hP hD hS => ?_)
  have hP : va_P D cLs [(h, .inr (0, [.ref q0, .ref q1, .ref q2, .ref q3, .null, .int 0, .null, .int 0, .null, .null, .null, .null, .null, .null, .null, .null, .null, .null, .null, .null, .int 0])), (q0, .inl (c0, 1024, .inl (fun _ => 0))), (q1, .inl (c1, 512, .inl (fun _ => 0))), (q2, .inl (c2, 512, .inl (fun _ => 0))), (q3, .inl (c3, 512, .inl (fun _ => 0)))] H := hP
  have hD : va_D A [(h, .inr (0, [.ref q0, .ref q1, .ref q2, .ref q3, .null, .int 0, .null, .int 0, .null, .null, .null, .null, .null, .null, .null, .null, .null, .null, .null, .null, .int 0])), (q0, .inl (c0, 1024, .inl (fun _ => 0))), (q1, .inl (c1, 512, .inl (fun _ => 0))), (q2, .inl (c2, 512, .inl (fun _ => 0))), (q3, .inl (c3, 512, .inl (fun _ => 0)))] := hD
  refine lv_aload_n hx hb dX0_init_40 rfl (lv_at hl 0 rfl) ?_
  refine lv_sipush (v := nI 512) hx hb dX0_init_41 (by decide) ?_
  refine va_newa (atype := .boolean) (ty := .boolean) (n := nI 512) (a0 := (512, .inl (fun _ => 0))) (N' := 512) hx hb (hts _ q96) rfl hK hP hD hS hA (fun _ => rfl) (by decide) (by decide) (by decide) (Nat.le_of_ble_eq_true rfl) (Nat.le_of_ble_eq_true rfl) dX0_init_44 (fun q4 c4 H hK hP hD hS => ?_)
  refine W.widen (k := 5) (n := 3072) (Nat.le_of_ble_eq_true rfl) (Nat.le_of_ble_eq_true rfl) ?_
  have hP : va_P D cLs [(h, .inr (0, [.ref q0, .ref q1, .ref q2, .ref q3, .null, .int 0, .null, .int 0, .null, .null, .null, .null, .null, .null, .null, .null, .null, .null, .null, .null, .int 0])), (q0, .inl (c0, 1024, .inl (fun _ => 0))), (q1, .inl (c1, 512, .inl (fun _ => 0))), (q2, .inl (c2, 512, .inl (fun _ => 0))), (q3, .inl (c3, 512, .inl (fun _ => 0))), (q4, .inl (c4, 512, .inl (fun _ => 0)))] H := hP
  have hD : va_D A [(h, .inr (0, [.ref q0, .ref q1, .ref q2, .ref q3, .null, .int 0, .null, .int 0, .null, .null, .null, .null, .null, .null, .null, .null, .null, .null, .null, .null, .int 0])), (q0, .inl (c0, 1024, .inl (fun _ => 0))), (q1, .inl (c1, 512, .inl (fun _ => 0))), (q2, .inl (c2, 512, .inl (fun _ => 0))), (q3, .inl (c3, 512, .inl (fun _ => 0))), (q4, .inl (c4, 512, .inl (fun _ => 0)))] := hD
  refine va_putF (D := D) (ci := 0) (v := .ref q4) (ty := (.array .boolean)) (C := RX0) (T := TX0) (N := 21) hx hb hts in_X0 tyX0 tyX0_ok nmX0 hown hK hP hD hS 0 rfl rfl 4 (by decide) (hts _ q34) (fun _ h9 => h9) rfl hin rfl (by decide +kernel) rfl rfl (Nat.le_of_ble_eq_true rfl) dX0_init_46 (fun H locs hP hD hS => ?_)
  have hP : va_P D cLs [(h, .inr (0, [.ref q0, .ref q1, .ref q2, .ref q3, .ref q4, .int 0, .null, .int 0, .null, .null, .null, .null, .null, .null, .null, .null, .null, .null, .null, .null, .int 0])), (q0, .inl (c0, 1024, .inl (fun _ => 0))), (q1, .inl (c1, 512, .inl (fun _ => 0))), (q2, .inl (c2, 512, .inl (fun _ => 0))), (q3, .inl (c3, 512, .inl (fun _ => 0))), (q4, .inl (c4, 512, .inl (fun _ => 0)))] H := hP
  have hD : va_D A [(h, .inr (0, [.ref q0, .ref q1, .ref q2, .ref q3, .ref q4, .int 0, .null, .int 0, .null, .null, .null, .null, .null, .null, .null, .null, .null, .null, .null, .null, .int 0])), (q0, .inl (c0, 1024, .inl (fun _ => 0))), (q1, .inl (c1, 512, .inl (fun _ => 0))), (q2, .inl (c2, 512, .inl (fun _ => 0))), (q3, .inl (c3, 512, .inl (fun _ => 0))), (q4, .inl (c4, 512, .inl (fun _ => 0)))] := hD
  refine lv_aload_n hx hb dX0_init_49 rfl (lv_at hl 0 rfl) ?_
  refine lv_sipush (v := nI 512) hx hb dX0_init_50 (by decide) ?_
  refine va_newa (atype := .short) (ty := .short) (n := nI 512) (a0 := (512, .inl (fun _ => 0))) (N' := 512) hx hb (hts _ q94) rfl hK hP hD hS hA (fun _ => rfl) (by decide) (by decide) (by decide) (Nat.le_of_ble_eq_true rfl) (Nat.le_of_ble_eq_true rfl) dX0_init_53 (fun q6 c6 H hK hP hD hS => ?_)
  refine W.widen (k := 6) (n := 3584) (Nat.le_of_ble_eq_true rfl) (Nat.le_of_ble_eq_true rfl) ?_
  have hP : va_P D cLs [(h, .inr (0, [.ref q0, .ref q1, .ref q2, .ref q3, .ref q4, .int 0, .null, .int 0, .null, .null, .null, .null, .null, .null, .null, .null, .null, .null, .null, .null, .int 0])), (q0, .inl (c0, 1024, .inl (fun _ => 0))), (q1, .inl (c1, 512, .inl (fun _ => 0))), (q2, .inl (c2, 512, .inl (fun _ => 0))), (q3, .inl (c3, 512, .inl (fun _ => 0))), (q4, .inl (c4, 512, .inl (fun _ => 0))), (q6, .inl (c6, 512, .inl (fun _ => 0)))] H := hP
  have hD : va_D A [(h, .inr (0, [.ref q0, .ref q1, .ref q2, .ref q3, .ref q4, .int 0, .null, .int 0, .null, .null, .null, .null, .null, .null, .null, .null, .null, .null, .null, .null, .int 0])), (q0, .inl (c0, 1024, .inl (fun _ => 0))), (q1, .inl (c1, 512, .inl (fun _ => 0))), (q2, .inl (c2, 512, .inl (fun _ => 0))), (q3, .inl (c3, 512, .inl (fun _ => 0))), (q4, .inl (c4, 512, .inl (fun _ => 0))), (q6, .inl (c6, 512, .inl (fun _ => 0)))] := hD
  refine va_putF (D := D) (ci := 0) (v := .ref q6) (ty := (.array .short)) (C := RX0) (T := TX0) (N := 21) hx hb hts in_X0 tyX0 tyX0_ok nmX0 hown hK hP hD hS 0 rfl rfl 6 (by decide) (hts _ q36) (fun _ h9 => h9) rfl hin rfl (by decide +kernel) rfl rfl (Nat.le_of_ble_eq_true rfl) dX0_init_55 (fun H locs hP hD hS => ?_)
  have hP : va_P D cLs [(h, .inr (0, [.ref q0, .ref q1, .ref q2, .ref q3, .ref q4, .int 0, .ref q6, .int 0, .null, .null, .null, .null, .null, .null, .null, .null, .null, .null, .null, .null, .int 0])), (q0, .inl (c0, 1024, .inl (fun _ => 0))), (q1, .inl (c1, 512, .inl (fun _ => 0))), (q2, .inl (c2, 512, .inl (fun _ => 0))), (q3, .inl (c3, 512, .inl (fun _ => 0))), (q4, .inl (c4, 512, .inl (fun _ => 0))), (q6, .inl (c6, 512, .inl (fun _ => 0)))] H := hP
  have hD : va_D A [(h, .inr (0, [.ref q0, .ref q1, .ref q2, .ref q3, .ref q4, .int 0, .ref q6, .int 0, .null, .null, .null, .null, .null, .null, .null, .null, .null, .null, .null, .null, .int 0])), (q0, .inl (c0, 1024, .inl (fun _ => 0))), (q1, .inl (c1, 512, .inl (fun _ => 0))), (q2, .inl (c2, 512, .inl (fun _ => 0))), (q3, .inl (c3, 512, .inl (fun _ => 0))), (q4, .inl (c4, 512, .inl (fun _ => 0))), (q6, .inl (c6, 512, .inl (fun _ => 0)))] := hD
  refine lv_aload_n hx hb dX0_init_58 rfl (lv_at hl 0 rfl) ?_
  refine lv_bipush (v := nI 6) hx hb dX0_init_59 (by decide) ?_
  refine va_newa (atype := .short) (ty := .short) (n := nI 6) (a0 := (6, .inl (fun _ => 0))) (N' := 6) hx hb (hts _ q94) rfl hK hP hD hS hA (fun _ => rfl) (by decide) (by decide) (by decide) (Nat.le_of_ble_eq_true rfl) (Nat.le_of_ble_eq_true rfl) dX0_init_61 (fun q8 c8 H hK hP hD hS => ?_)
  refine W.widen (k := 7) (n := 3590) (Nat.le_of_ble_eq_true rfl) (Nat.le_of_ble_eq_true rfl) ?_
  have hP : va_P D cLs [(h, .inr (0, [.ref q0, .ref q1, .ref q2, .ref q3, .ref q4, .int 0, .ref q6, .int 0, .null, .null, .null, .null, .null, .null, .null, .null, .null, .null, .null, .null, .int 0])), (q0, .inl (c0, 1024, .inl (fun _ => 0))), (q1, .inl (c1, 512, .inl (fun _ => 0))), (q2, .inl (c2, 512, .inl (fun _ => 0))), (q3, .inl (c3, 512, .inl (fun _ => 0))), (q4, .inl (c4, 512, .inl (fun _ => 0))), (q6, .inl (c6, 512, .inl (fun _ => 0))), (q8, .inl (c8, 6, .inl (fun _ => 0)))] H := hP
  have hD : va_D A [(h, .inr (0, [.ref q0, .ref q1, .ref q2, .ref q3, .ref q4, .int 0, .ref q6, .int 0, .null, .null, .null, .null, .null, .null, .null, .null, .null, .null, .null, .null, .int 0])), (q0, .inl (c0, 1024, .inl (fun _ => 0))), (q1, .inl (c1, 512, .inl (fun _ => 0))), (q2, .inl (c2, 512, .inl (fun _ => 0))), (q3, .inl (c3, 512, .inl (fun _ => 0))), (q4, .inl (c4, 512, .inl (fun _ => 0))), (q6, .inl (c6, 512, .inl (fun _ => 0))), (q8, .inl (c8, 6, .inl (fun _ => 0)))] := hD
  refine va_putF (D := D) (ci := 0) (v := .ref q8) (ty := (.array .short)) (C := RX0) (T := TX0) (N := 21) hx hb hts in_X0 tyX0 tyX0_ok nmX0 hown hK hP hD hS 0 rfl rfl 8 (by decide) (hts _ q38) (fun _ h9 => h9) rfl hin rfl (by decide +kernel) rfl rfl (Nat.le_of_ble_eq_true rfl) dX0_init_63 (fun H locs hP hD hS => ?_)
  have hP : va_P D cLs [(h, .inr (0, [.ref q0, .ref q1, .ref q2, .ref q3, .ref q4, .int 0, .ref q6, .int 0, .ref q8, .null, .null, .null, .null, .null, .null, .null, .null, .null, .null, .null, .int 0])), (q0, .inl (c0, 1024, .inl (fun _ => 0))), (q1, .inl (c1, 512, .inl (fun _ => 0))), (q2, .inl (c2, 512, .inl (fun _ => 0))), (q3, .inl (c3, 512, .inl (fun _ => 0))), (q4, .inl (c4, 512, .inl (fun _ => 0))), (q6, .inl (c6, 512, .inl (fun _ => 0))), (q8, .inl (c8, 6, .inl (fun _ => 0)))] H := hP
  have hD : va_D A [(h, .inr (0, [.ref q0, .ref q1, .ref q2, .ref q3, .ref q4, .int 0, .ref q6, .int 0, .ref q8, .null, .null, .null, .null, .null, .null, .null, .null, .null, .null, .null, .int 0])), (q0, .inl (c0, 1024, .inl (fun _ => 0))), (q1, .inl (c1, 512, .inl (fun _ => 0))), (q2, .inl (c2, 512, .inl (fun _ => 0))), (q3, .inl (c3, 512, .inl (fun _ => 0))), (q4, .inl (c4, 512, .inl (fun _ => 0))), (q6, .inl (c6, 512, .inl (fun _ => 0))), (q8, .inl (c8, 6, .inl (fun _ => 0)))] := hD
  refine lv_aload_n hx hb dX0_init_66 rfl (lv_at hl 0 rfl) ?_
  refine lv_iconst (v := nI 4) hx hb dX0_init_67 (by decide) ?_
  refine va_newa (atype := .boolean) (ty := .boolean) (n := nI 4) (a0 := (4, .inl (fun _ => 0))) (N' := 4) hx hb (hts _ q96) rfl hK hP hD hS hA (fun _ => rfl) (by decide) (by decide) (by decide) (Nat.le_of_ble_eq_true rfl) (Nat.le_of_ble_eq_true rfl) dX0_init_68 (fun q9 c9 H hK hP hD hS => ?_)
  refine W.widen (k := 8) (n := 3594) (Nat.le_of_ble_eq_true rfl) (Nat.le_of_ble_eq_true rfl) ?_
  have hP : va_P D cLs [(h, .inr (0, [.ref q0, .ref q1, .ref q2, .ref q3, .ref q4, .int 0, .ref q6, .int 0, .ref q8, .null, .null, .null, .null, .null, .null, .null, .null, .null, .null, .null, .int 0])), (q0, .inl (c0, 1024, .inl (fun _ => 0))), (q1, .inl (c1, 512, .inl (fun _ => 0))), (q2, .inl (c2, 512, .inl (fun _ => 0))), (q3, .inl (c3, 512, .inl (fun _ => 0))), (q4, .inl (c4, 512, .inl (fun _ => 0))), (q6, .inl (c6, 512, .inl (fun _ => 0))), (q8, .inl (c8, 6, .inl (fun _ => 0))), (q9, .inl (c9, 4, .inl (fun _ => 0)))] H := hP
  have hD : va_D A [(h, .inr (0, [.ref q0, .ref q1, .ref q2, .ref q3, .ref q4, .int 0, .ref q6, .int 0, .ref q8, .null, .null, .null, .null, .null, .null, .null, .null, .null, .null, .null, .int 0])), (q0, .inl (c0, 1024, .inl (fun _ => 0))), (q1, .inl (c1, 512, .inl (fun _ => 0))), (q2, .inl (c2, 512, .inl (fun _ => 0))), (q3, .inl (c3, 512, .inl (fun _ => 0))), (q4, .inl (c4, 512, .inl (fun _ => 0))), (q6, .inl (c6, 512, .inl (fun _ => 0))), (q8, .inl (c8, 6, .inl (fun _ => 0))), (q9, .inl (c9, 4, .inl (fun _ => 0)))] := hD
  refine va_putF (D := D) (ci := 0) (v := .ref q9) (ty := (.array .boolean)) (C := RX0) (T := TX0) (N := 21) hx hb hts in_X0 tyX0 tyX0_ok nmX0 hown hK hP hD hS 0 rfl rfl 9 (by decide) (hts _ q39) (fun _ h9 => h9) rfl hin rfl (by decide +kernel) rfl rfl (Nat.le_of_ble_eq_true rfl) dX0_init_70 (fun H locs hP hD hS => ?_)
  have hP : va_P D cLs [(h, .inr (0, [.ref q0, .ref q1, .ref q2, .ref q3, .ref q4, .int 0, .ref q6, .int 0, .ref q8, .ref q9, .null, .null, .null, .null, .null, .null, .null, .null, .null, .null, .int 0])), (q0, .inl (c0, 1024, .inl (fun _ => 0))), (q1, .inl (c1, 512, .inl (fun _ => 0))), (q2, .inl (c2, 512, .inl (fun _ => 0))), (q3, .inl (c3, 512, .inl (fun _ => 0))), (q4, .inl (c4, 512, .inl (fun _ => 0))), (q6, .inl (c6, 512, .inl (fun _ => 0))), (q8, .inl (c8, 6, .inl (fun _ => 0))), (q9, .inl (c9, 4, .inl (fun _ => 0)))] H := hP
  have hD : va_D A [(h, .inr (0, [.ref q0, .ref q1, .ref q2, .ref q3, .ref q4, .int 0, .ref q6, .int 0, .ref q8, .ref q9, .null, .null, .null, .null, .null, .null, .null, .null, .null, .null, .int 0])), (q0, .inl (c0, 1024, .inl (fun _ => 0))), (q1, .inl (c1, 512, .inl (fun _ => 0))), (q2, .inl (c2, 512, .inl (fun _ => 0))), (q3, .inl (c3, 512, .inl (fun _ => 0))), (q4, .inl (c4, 512, .inl (fun _ => 0))), (q6, .inl (c6, 512, .inl (fun _ => 0))), (q8, .inl (c8, 6, .inl (fun _ => 0))), (q9, .inl (c9, 4, .inl (fun _ => 0)))] := hD
  refine lv_aload_n hx hb dX0_init_73 rfl (lv_at hl 0 rfl) ?_
  refine lv_iconst (v := nI 4) hx hb dX0_init_74 (by decide) ?_
  refine va_newa (atype := .int) (ty := .int) (n := nI 4) (a0 := (4, .inl (fun _ => 0))) (N' := 4) hx hb (hts _ q95) rfl hK hP hD hS hA (fun _ => rfl) (by decide) (by decide) (by decide) (Nat.le_of_ble_eq_true rfl) (Nat.le_of_ble_eq_true rfl) dX0_init_75 (fun q10 c10 H hK hP hD hS => ?_)
  refine W.widen (k := 9) (n := 3598) (Nat.le_of_ble_eq_true rfl) (Nat.le_of_ble_eq_true rfl) ?_
  have hP : va_P D cLs [(h, .inr (0, [.ref q0, .ref q1, .ref q2, .ref q3, .ref q4, .int 0, .ref q6, .int 0, .ref q8, .ref q9, .null, .null, .null, .null, .null, .null, .null, .null, .null, .null, .int 0])), (q0, .inl (c0, 1024, .inl (fun _ => 0))), (q1, .inl (c1, 512, .inl (fun _ => 0))), (q2, .inl (c2, 512, .inl (fun _ => 0))), (q3, .inl (c3, 512, .inl (fun _ => 0))), (q4, .inl (c4, 512, .inl (fun _ => 0))), (q6, .inl (c6, 512, .inl (fun _ => 0))), (q8, .inl (c8, 6, .inl (fun _ => 0))), (q9, .inl (c9, 4, .inl (fun _ => 0))), (q10, .inl (c10, 4, .inl (fun _ => 0)))] H := hP
  have hD : va_D A [(h, .inr (0, [.ref q0, .ref q1, .ref q2, .ref q3, .ref q4, .int 0, .ref q6, .int 0, .ref q8, .ref q9, .null, .null, .null, .null, .null, .null, .null, .null, .null, .null, .int 0])), (q0, .inl (c0, 1024, .inl (fun _ => 0))), (q1, .inl (c1, 512, .inl (fun _ => 0))), (q2, .inl (c2, 512, .inl (fun _ => 0))), (q3, .inl (c3, 512, .inl (fun _ => 0))), (q4, .inl (c4, 512, .inl (fun _ => 0))), (q6, .inl (c6, 512, .inl (fun _ => 0))), (q8, .inl (c8, 6, .inl (fun _ => 0))), (q9, .inl (c9, 4, .inl (fun _ => 0))), (q10, .inl (c10, 4, .inl (fun _ => 0)))] := hD
  refine va_putF (D := D) (ci := 0) (v := .ref q10) (ty := (.array .int)) (C := RX0) (T := TX0) (N := 21) hx hb hts in_X0 tyX0 tyX0_ok nmX0 hown hK hP hD hS 0 rfl rfl 10 (by decide) (hts _ q40) (fun _ h9 => h9) rfl hin rfl (by decide +kernel) rfl rfl (Nat.le_of_ble_eq_true rfl) dX0_init_77 (fun H locs hP hD hS => ?_)
  have hP : va_P D cLs [(h, .inr (0, [.ref q0, .ref q1, .ref q2, .ref q3, .ref q4, .int 0, .ref q6, .int 0, .ref q8, .ref q9, .ref q10, .null, .null, .null, .null, .null, .null, .null, .null, .null, .int 0])), (q0, .inl (c0, 1024, .inl (fun _ => 0))), (q1, .inl (c1, 512, .inl (fun _ => 0))), (q2, .inl (c2, 512, .inl (fun _ => 0))), (q3, .inl (c3, 512, .inl (fun _ => 0))), (q4, .inl (c4, 512, .inl (fun _ => 0))), (q6, .inl (c6, 512, .inl (fun _ => 0))), (q8, .inl (c8, 6, .inl (fun _ => 0))), (q9, .inl (c9, 4, .inl (fun _ => 0))), (q10, .inl (c10, 4, .inl (fun _ => 0)))] H := hP
  have hD : va_D A [(h, .inr (0, [.ref q0, .ref q1, .ref q2, .ref q3, .ref q4, .int 0, .ref q6, .int 0, .ref q8, .ref q9, .ref q10, .null, .null, .null, .null, .null, .null, .null, .null, .null, .int 0])), (q0, .inl (c0, 1024, .inl (fun _ => 0))), (q1, .inl (c1, 512, .inl (fun _ => 0))), (q2, .inl (c2, 512, .inl (fun _ => 0))), (q3, .inl (c3, 512, .inl (fun _ => 0))), (q4, .inl (c4, 512, .inl (fun _ => 0))), (q6, .inl (c6, 512, .inl (fun _ => 0))), (q8, .inl (c8, 6, .inl (fun _ => 0))), (q9, .inl (c9, 4, .inl (fun _ => 0))), (q10, .inl (c10, 4, .inl (fun _ => 0)))] := hD
  refine lv_aload_n hx hb dX0_init_80 rfl (lv_at hl 0 rfl) ?_
  refine lv_iconst (v := nI 4) hx hb dX0_init_81 (by decide) ?_
  refine va_newa (atype := .short) (ty := .short) (n := nI 4) (a0 := (4, .inl (fun _ => 0))) (N' := 4) hx hb (hts _ q94) rfl hK hP hD hS hA (fun _ => rfl) (by decide) (by decide) (by decide) (Nat.le_of_ble_eq_true rfl) (Nat.le_of_ble_eq_true rfl) dX0_init_82 (fun q11 c11 H hK hP hD hS => ?_)
  refine W.widen (k := 10) (n := 3602) (Nat.le_of_ble_eq_true rfl) (Nat.le_of_ble_eq_true rfl) ?_
  have hP : va_P D cLs [(h, .inr (0, [.ref q0, .ref q1, .ref q2, .ref q3, .ref q4, .int 0, .ref q6, .int 0, .ref q8, .ref q9, .ref q10, .null, .null, .null, .null, .null, .null, .null, .null, .null, .int 0])), (q0, .inl (c0, 1024, .inl (fun _ => 0))), (q1, .inl (c1, 512, .inl (fun _ => 0))), (q2, .inl (c2, 512, .inl (fun _ => 0))), (q3, .inl (c3, 512, .inl (fun _ => 0))), (q4, .inl (c4, 512, .inl (fun _ => 0))), (q6, .inl (c6, 512, .inl (fun _ => 0))), (q8, .inl (c8, 6, .inl (fun _ => 0))), (q9, .inl (c9, 4, .inl (fun _ => 0))), (q10, .inl (c10, 4, .inl (fun _ => 0))), (q11, .inl (c11, 4, .inl (fun _ => 0)))] H := hP
  have hD : va_D A [(h, .inr (0, [.ref q0, .ref q1, .ref q2, .ref q3, .ref q4, .int 0, .ref q6, .int 0, .ref q8, .ref q9, .ref q10, .null, .null, .null, .null, .null, .null, .null, .null, .null, .int 0])), (q0, .inl (c0, 1024, .inl (fun _ => 0))), (q1, .inl (c1, 512, .inl (fun _ => 0))), (q2, .inl (c2, 512, .inl (fun _ => 0))), (q3, .inl (c3, 512, .inl (fun _ => 0))), (q4, .inl (c4, 512, .inl (fun _ => 0))), (q6, .inl (c6, 512, .inl (fun _ => 0))), (q8, .inl (c8, 6, .inl (fun _ => 0))), (q9, .inl (c9, 4, .inl (fun _ => 0))), (q10, .inl (c10, 4, .inl (fun _ => 0))), (q11, .inl (c11, 4, .inl (fun _ => 0)))] := hD
  refine va_putF (D := D) (ci := 0) (v := .ref q11) (ty := (.array .short)) (C := RX0) (T := TX0) (N := 21) hx hb hts in_X0 tyX0 tyX0_ok nmX0 hown hK hP hD hS 0 rfl rfl 11 (by decide) (hts _ q41) (fun _ h9 => h9) rfl hin rfl (by decide +kernel) rfl rfl (Nat.le_of_ble_eq_true rfl) dX0_init_84 (fun H locs hP hD hS => ?_)
  have hP : va_P D cLs [(h, .inr (0, [.ref q0, .ref q1, .ref q2, .ref q3, .ref q4, .int 0, .ref q6, .int 0, .ref q8, .ref q9, .ref q10, .ref q11, .null, .null, .null, .null, .null, .null, .null, .null, .int 0])), (q0, .inl (c0, 1024, .inl (fun _ => 0))), (q1, .inl (c1, 512, .inl (fun _ => 0))), (q2, .inl (c2, 512, .inl (fun _ => 0))), (q3, .inl (c3, 512, .inl (fun _ => 0))), (q4, .inl (c4, 512, .inl (fun _ => 0))), (q6, .inl (c6, 512, .inl (fun _ => 0))), (q8, .inl (c8, 6, .inl (fun _ => 0))), (q9, .inl (c9, 4, .inl (fun _ => 0))), (q10, .inl (c10, 4, .inl (fun _ => 0))), (q11, .inl (c11, 4, .inl (fun _ => 0)))] H := hP
  have hD : va_D A [(h, .inr (0, [.ref q0, .ref q1, .ref q2, .ref q3, .ref q4, .int 0, .ref q6, .int 0, .ref q8, .ref q9, .ref q10, .ref q11, .null, .null, .null, .null, .null, .null, .null, .null, .int 0])), (q0, .inl (c0, 1024, .inl (fun _ => 0))), (q1, .inl (c1, 512, .inl (fun _ => 0))), (q2, .inl (c2, 512, .inl (fun _ => 0))), (q3, .inl (c3, 512, .inl (fun _ => 0))), (q4, .inl (c4, 512, .inl (fun _ => 0))), (q6, .inl (c6, 512, .inl (fun _ => 0))), (q8, .inl (c8, 6, .inl (fun _ => 0))), (q9, .inl (c9, 4, .inl (fun _ => 0))), (q10, .inl (c10, 4, .inl (fun _ => 0))), (q11, .inl (c11, 4, .inl (fun _ => 0)))] := hD
  refine lv_aload_n hx hb dX0_init_87 rfl (lv_at hl 0 rfl) ?_
  refine lv_iconst (v := nI 4) hx hb dX0_init_88 (by decide) ?_
  refine va_newa (atype := .int) (ty := .int) (n := nI 4) (a0 := (4, .inl (fun _ => 0))) (N' := 4) hx hb (hts _ q95) rfl hK hP hD hS hA (fun _ => rfl) (by decide) (by decide) (by decide) (Nat.le_of_ble_eq_true rfl) (Nat.le_of_ble_eq_true rfl) dX0_init_89 (fun q12 c12 H hK hP hD hS => ?_)
  refine W.widen (k := 11) (n := 3606) (Nat.le_of_ble_eq_true rfl) (Nat.le_of_ble_eq_true rfl) ?_
  have hP : va_P D cLs [(h, .inr (0, [.ref q0, .ref q1, .ref q2, .ref q3, .ref q4, .int 0, .ref q6, .int 0, .ref q8, .ref q9, .ref q10, .ref q11, .null, .null, .null, .null, .null, .null, .null, .null, .int 0])), (q0, .inl (c0, 1024, .inl (fun _ => 0))), (q1, .inl (c1, 512, .inl (fun _ => 0))), (q2, .inl (c2, 512, .inl (fun _ => 0))), (q3, .inl (c3, 512, .inl (fun _ => 0))), (q4, .inl (c4, 512, .inl (fun _ => 0))), (q6, .inl (c6, 512, .inl (fun _ => 0))), (q8, .inl (c8, 6, .inl (fun _ => 0))), (q9, .inl (c9, 4, .inl (fun _ => 0))), (q10, .inl (c10, 4, .inl (fun _ => 0))), (q11, .inl (c11, 4, .inl (fun _ => 0))), (q12, .inl (c12, 4, .inl (fun _ => 0)))] H := hP
  have hD : va_D A [(h, .inr (0, [.ref q0, .ref q1, .ref q2, .ref q3, .ref q4, .int 0, .ref q6, .int 0, .ref q8, .ref q9, .ref q10, .ref q11, .null, .null, .null, .null, .null, .null, .null, .null, .int 0])), (q0, .inl (c0, 1024, .inl (fun _ => 0))), (q1, .inl (c1, 512, .inl (fun _ => 0))), (q2, .inl (c2, 512, .inl (fun _ => 0))), (q3, .inl (c3, 512, .inl (fun _ => 0))), (q4, .inl (c4, 512, .inl (fun _ => 0))), (q6, .inl (c6, 512, .inl (fun _ => 0))), (q8, .inl (c8, 6, .inl (fun _ => 0))), (q9, .inl (c9, 4, .inl (fun _ => 0))), (q10, .inl (c10, 4, .inl (fun _ => 0))), (q11, .inl (c11, 4, .inl (fun _ => 0))), (q12, .inl (c12, 4, .inl (fun _ => 0)))] := hD
  refine va_putF (D := D) (ci := 0) (v := .ref q12) (ty := (.array .int)) (C := RX0) (T := TX0) (N := 21) hx hb hts in_X0 tyX0 tyX0_ok nmX0 hown hK hP hD hS 0 rfl rfl 12 (by decide) (hts _ q42) (fun _ h9 => h9) rfl hin rfl (by decide +kernel) rfl rfl (Nat.le_of_ble_eq_true rfl) dX0_init_91 (fun H locs hP hD hS => ?_)
  have hP : va_P D cLs [(h, .inr (0, [.ref q0, .ref q1, .ref q2, .ref q3, .ref q4, .int 0, .ref q6, .int 0, .ref q8, .ref q9, .ref q10, .ref q11, .ref q12, .null, .null, .null, .null, .null, .null, .null, .int 0])), (q0, .inl (c0, 1024, .inl (fun _ => 0))), (q1, .inl (c1, 512, .inl (fun _ => 0))), (q2, .inl (c2, 512, .inl (fun _ => 0))), (q3, .inl (c3, 512, .inl (fun _ => 0))), (q4, .inl (c4, 512, .inl (fun _ => 0))), (q6, .inl (c6, 512, .inl (fun _ => 0))), (q8, .inl (c8, 6, .inl (fun _ => 0))), (q9, .inl (c9, 4, .inl (fun _ => 0))), (q10, .inl (c10, 4, .inl (fun _ => 0))), (q11, .inl (c11, 4, .inl (fun _ => 0))), (q12, .inl (c12, 4, .inl (fun _ => 0)))] H := hP
  have hD : va_D A [(h, .inr (0, [.ref q0, .ref q1, .ref q2, .ref q3, .ref q4, .int 0, .ref q6, .int 0, .ref q8, .ref q9, .ref q10, .ref q11, .ref q12, .null, .null, .null, .null, .null, .null, .null, .int 0])), (q0, .inl (c0, 1024, .inl (fun _ => 0))), (q1, .inl (c1, 512, .inl (fun _ => 0))), (q2, .inl (c2, 512, .inl (fun _ => 0))), (q3, .inl (c3, 512, .inl (fun _ => 0))), (q4, .inl (c4, 512, .inl (fun _ => 0))), (q6, .inl (c6, 512, .inl (fun _ => 0))), (q8, .inl (c8, 6, .inl (fun _ => 0))), (q9, .inl (c9, 4, .inl (fun _ => 0))), (q10, .inl (c10, 4, .inl (fun _ => 0))), (q11, .inl (c11, 4, .inl (fun _ => 0))), (q12, .inl (c12, 4, .inl (fun _ => 0)))] := hD
  refine lv_aload_n hx hb dX0_init_94 rfl (lv_at hl 0 rfl) ?_
  refine lv_iconst (v := nI 4) hx hb dX0_init_95 (by decide) ?_
  refine va_newa (atype := .byte) (ty := .byte) (n := nI 4) (a0 := (4, .inl (fun _ => 0))) (N' := 4) hx hb (hts _ q97) rfl hK hP hD hS hA (fun _ => rfl) (by decide) (by decide) (by decide) (Nat.le_of_ble_eq_true rfl) (Nat.le_of_ble_eq_true rfl) dX0_init_96 (fun q13 c13 H hK hP hD hS => ?_)
  refine W.widen (k := 12) (n := 3610) (Nat.le_of_ble_eq_true rfl) (Nat.le_of_ble_eq_true rfl) ?_
  have hP : va_P D cLs [(h, .inr (0, [.ref q0, .ref q1, .ref q2, .ref q3, .ref q4, .int 0, .ref q6, .int 0, .ref q8, .ref q9, .ref q10, .ref q11, .ref q12, .null, .null, .null, .null, .null, .null, .null, .int 0])), (q0, .inl (c0, 1024, .inl (fun _ => 0))), (q1, .inl (c1, 512, .inl (fun _ => 0))), (q2, .inl (c2, 512, .inl (fun _ => 0))), (q3, .inl (c3, 512, .inl (fun _ => 0))), (q4, .inl (c4, 512, .inl (fun _ => 0))), (q6, .inl (c6, 512, .inl (fun _ => 0))), (q8, .inl (c8, 6, .inl (fun _ => 0))), (q9, .inl (c9, 4, .inl (fun _ => 0))), (q10, .inl (c10, 4, .inl (fun _ => 0))), (q11, .inl (c11, 4, .inl (fun _ => 0))), (q12, .inl (c12, 4, .inl (fun _ => 0))), (q13, .inl (c13, 4, .inl (fun _ => 0)))] H := hP
  have hD : va_D A [(h, .inr (0, [.ref q0, .ref q1, .ref q2, .ref q3, .ref q4, .int 0, .ref q6, .int 0, .ref q8, .ref q9, .ref q10, .ref q11, .ref q12, .null, .null, .null, .null, .null, .null, .null, .int 0])), (q0, .inl (c0, 1024, .inl (fun _ => 0))), (q1, .inl (c1, 512, .inl (fun _ => 0))), (q2, .inl (c2, 512, .inl (fun _ => 0))), (q3, .inl (c3, 512, .inl (fun _ => 0))), (q4, .inl (c4, 512, .inl (fun _ => 0))), (q6, .inl (c6, 512, .inl (fun _ => 0))), (q8, .inl (c8, 6, .inl (fun _ => 0))), (q9, .inl (c9, 4, .inl (fun _ => 0))), (q10, .inl (c10, 4, .inl (fun _ => 0))), (q11, .inl (c11, 4, .inl (fun _ => 0))), (q12, .inl (c12, 4, .inl (fun _ => 0))), (q13, .inl (c13, 4, .inl (fun _ => 0)))] := hD
  refine va_putF (D := D) (ci := 0) (v := .ref q13) (ty := (.array .byte)) (C := RX0) (T := TX0) (N := 21) hx hb hts in_X0 tyX0 tyX0_ok nmX0 hown hK hP hD hS 0 rfl rfl 13 (by decide) (hts _ q43) (fun _ h9 => h9) rfl hin rfl (by decide +kernel) rfl rfl (Nat.le_of_ble_eq_true rfl) dX0_init_98 (fun H locs hP hD hS => ?_)
  have hP : va_P D cLs [(h, .inr (0, [.ref q0, .ref q1, .ref q2, .ref q3, .ref q4, .int 0, .ref q6, .int 0, .ref q8, .ref q9, .ref q10, .ref q11, .ref q12, .ref q13, .null, .null, .null, .null, .null, .null, .int 0])), (q0, .inl (c0, 1024, .inl (fun _ => 0))), (q1, .inl (c1, 512, .inl (fun _ => 0))), (q2, .inl (c2, 512, .inl (fun _ => 0))), (q3, .inl (c3, 512, .inl (fun _ => 0))), (q4, .inl (c4, 512, .inl (fun _ => 0))), (q6, .inl (c6, 512, .inl (fun _ => 0))), (q8, .inl (c8, 6, .inl (fun _ => 0))), (q9, .inl (c9, 4, .inl (fun _ => 0))), (q10, .inl (c10, 4, .inl (fun _ => 0))), (q11, .inl (c11, 4, .inl (fun _ => 0))), (q12, .inl (c12, 4, .inl (fun _ => 0))), (q13, .inl (c13, 4, .inl (fun _ => 0)))] H := hP
  have hD : va_D A [(h, .inr (0, [.ref q0, .ref q1, .ref q2, .ref q3, .ref q4, .int 0, .ref q6, .int 0, .ref q8, .ref q9, .ref q10, .ref q11, .ref q12, .ref q13, .null, .null, .null, .null, .null, .null, .int 0])), (q0, .inl (c0, 1024, .inl (fun _ => 0))), (q1, .inl (c1, 512, .inl (fun _ => 0))), (q2, .inl (c2, 512, .inl (fun _ => 0))), (q3, .inl (c3, 512, .inl (fun _ => 0))), (q4, .inl (c4, 512, .inl (fun _ => 0))), (q6, .inl (c6, 512, .inl (fun _ => 0))), (q8, .inl (c8, 6, .inl (fun _ => 0))), (q9, .inl (c9, 4, .inl (fun _ => 0))), (q10, .inl (c10, 4, .inl (fun _ => 0))), (q11, .inl (c11, 4, .inl (fun _ => 0))), (q12, .inl (c12, 4, .inl (fun _ => 0))), (q13, .inl (c13, 4, .inl (fun _ => 0)))] := hD
  refine lv_aload_n hx hb dX0_init_101 rfl (lv_at hl 0 rfl) ?_
  refine lv_bipush (v := nI 24) hx hb dX0_init_102 (by decide) ?_
  refine va_newa (atype := .byte) (ty := .byte) (n := nI 24) (a0 := (24, .inl (fun _ => 0))) (N' := 24) hx hb (hts _ q97) rfl hK hP hD hS hA (fun _ => rfl) (by decide) (by decide) (by decide) (Nat.le_of_ble_eq_true rfl) (Nat.le_of_ble_eq_true rfl) dX0_init_104 (fun q14 c14 H hK hP hD hS => ?_)
  refine W.widen (k := 13) (n := 3634) (Nat.le_of_ble_eq_true rfl) (Nat.le_of_ble_eq_true rfl) ?_
  have hP : va_P D cLs [(h, .inr (0, [.ref q0, .ref q1, .ref q2, .ref q3, .ref q4, .int 0, .ref q6, .int 0, .ref q8, .ref q9, .ref q10, .ref q11, .ref q12, .ref q13, .null, .null, .null, .null, .null, .null, .int 0])), (q0, .inl (c0, 1024, .inl (fun _ => 0))), (q1, .inl (c1, 512, .inl (fun _ => 0))), (q2, .inl (c2, 512, .inl (fun _ => 0))), (q3, .inl (c3, 512, .inl (fun _ => 0))), (q4, .inl (c4, 512, .inl (fun _ => 0))), (q6, .inl (c6, 512, .inl (fun _ => 0))), (q8, .inl (c8, 6, .inl (fun _ => 0))), (q9, .inl (c9, 4, .inl (fun _ => 0))), (q10, .inl (c10, 4, .inl (fun _ => 0))), (q11, .inl (c11, 4, .inl (fun _ => 0))), (q12, .inl (c12, 4, .inl (fun _ => 0))), (q13, .inl (c13, 4, .inl (fun _ => 0))), (q14, .inl (c14, 24, .inl (fun _ => 0)))] H := hP
  have hD : va_D A [(h, .inr (0, [.ref q0, .ref q1, .ref q2, .ref q3, .ref q4, .int 0, .ref q6, .int 0, .ref q8, .ref q9, .ref q10, .ref q11, .ref q12, .ref q13, .null, .null, .null, .null, .null, .null, .int 0])), (q0, .inl (c0, 1024, .inl (fun _ => 0))), (q1, .inl (c1, 512, .inl (fun _ => 0))), (q2, .inl (c2, 512, .inl (fun _ => 0))), (q3, .inl (c3, 512, .inl (fun _ => 0))), (q4, .inl (c4, 512, .inl (fun _ => 0))), (q6, .inl (c6, 512, .inl (fun _ => 0))), (q8, .inl (c8, 6, .inl (fun _ => 0))), (q9, .inl (c9, 4, .inl (fun _ => 0))), (q10, .inl (c10, 4, .inl (fun _ => 0))), (q11, .inl (c11, 4, .inl (fun _ => 0))), (q12, .inl (c12, 4, .inl (fun _ => 0))), (q13, .inl (c13, 4, .inl (fun _ => 0))), (q14, .inl (c14, 24, .inl (fun _ => 0)))] := hD
  refine va_putF (D := D) (ci := 0) (v := .ref q14) (ty := (.array .byte)) (C := RX0) (T := TX0) (N := 21) hx hb hts in_X0 tyX0 tyX0_ok nmX0 hown hK hP hD hS 0 rfl rfl 14 (by decide) (hts _ q44) (fun _ h9 => h9) rfl hin rfl (by decide +kernel) rfl rfl (Nat.le_of_ble_eq_true rfl) dX0_init_106 (fun H locs hP hD hS => ?_)
  have hP : va_P D cLs [(h, .inr (0, [.ref q0, .ref q1, .ref q2, .ref q3, .ref q4, .int 0, .ref q6, .int 0, .ref q8, .ref q9, .ref q10, .ref q11, .ref q12, .ref q13, .ref q14, .null, .null, .null, .null, .null, .int 0])), (q0, .inl (c0, 1024, .inl (fun _ => 0))), (q1, .inl (c1, 512, .inl (fun _ => 0))), (q2, .inl (c2, 512, .inl (fun _ => 0))), (q3, .inl (c3, 512, .inl (fun _ => 0))), (q4, .inl (c4, 512, .inl (fun _ => 0))), (q6, .inl (c6, 512, .inl (fun _ => 0))), (q8, .inl (c8, 6, .inl (fun _ => 0))), (q9, .inl (c9, 4, .inl (fun _ => 0))), (q10, .inl (c10, 4, .inl (fun _ => 0))), (q11, .inl (c11, 4, .inl (fun _ => 0))), (q12, .inl (c12, 4, .inl (fun _ => 0))), (q13, .inl (c13, 4, .inl (fun _ => 0))), (q14, .inl (c14, 24, .inl (fun _ => 0)))] H := hP
  have hD : va_D A [(h, .inr (0, [.ref q0, .ref q1, .ref q2, .ref q3, .ref q4, .int 0, .ref q6, .int 0, .ref q8, .ref q9, .ref q10, .ref q11, .ref q12, .ref q13, .ref q14, .null, .null, .null, .null, .null, .int 0])), (q0, .inl (c0, 1024, .inl (fun _ => 0))), (q1, .inl (c1, 512, .inl (fun _ => 0))), (q2, .inl (c2, 512, .inl (fun _ => 0))), (q3, .inl (c3, 512, .inl (fun _ => 0))), (q4, .inl (c4, 512, .inl (fun _ => 0))), (q6, .inl (c6, 512, .inl (fun _ => 0))), (q8, .inl (c8, 6, .inl (fun _ => 0))), (q9, .inl (c9, 4, .inl (fun _ => 0))), (q10, .inl (c10, 4, .inl (fun _ => 0))), (q11, .inl (c11, 4, .inl (fun _ => 0))), (q12, .inl (c12, 4, .inl (fun _ => 0))), (q13, .inl (c13, 4, .inl (fun _ => 0))), (q14, .inl (c14, 24, .inl (fun _ => 0)))] := hD
  refine lv_aload_n hx hb dX0_init_109 rfl (lv_at hl 0 rfl) ?_
  refine lv_bipush (v := nI 24) hx hb dX0_init_110 (by decide) ?_
  refine va_newa (atype := .int) (ty := .int) (n := nI 24) (a0 := (24, .inl (fun _ => 0))) (N' := 24) hx hb (hts _ q95) rfl hK hP hD hS hA (fun _ => rfl) (by decide) (by decide) (by decide) (Nat.le_of_ble_eq_true rfl) (Nat.le_of_ble_eq_true rfl) dX0_init_112 (fun q15 c15 H hK hP hD hS => ?_)
  refine W.widen (k := 14) (n := 3658) (Nat.le_of_ble_eq_true rfl) (Nat.le_of_ble_eq_true rfl) ?_
  have hP : va_P D cLs [(h, .inr (0, [.ref q0, .ref q1, .ref q2, .ref q3, .ref q4, .int 0, .ref q6, .int 0, .ref q8, .ref q9, .ref q10, .ref q11, .ref q12, .ref q13, .ref q14, .null, .null, .null, .null, .null, .int 0])), (q0, .inl (c0, 1024, .inl (fun _ => 0))), (q1, .inl (c1, 512, .inl (fun _ => 0))), (q2, .inl (c2, 512, .inl (fun _ => 0))), (q3, .inl (c3, 512, .inl (fun _ => 0))), (q4, .inl (c4, 512, .inl (fun _ => 0))), (q6, .inl (c6, 512, .inl (fun _ => 0))), (q8, .inl (c8, 6, .inl (fun _ => 0))), (q9, .inl (c9, 4, .inl (fun _ => 0))), (q10, .inl (c10, 4, .inl (fun _ => 0))), (q11, .inl (c11, 4, .inl (fun _ => 0))), (q12, .inl (c12, 4, .inl (fun _ => 0))), (q13, .inl (c13, 4, .inl (fun _ => 0))), (q14, .inl (c14, 24, .inl (fun _ => 0))), (q15, .inl (c15, 24, .inl (fun _ => 0)))] H := hP
  have hD : va_D A [(h, .inr (0, [.ref q0, .ref q1, .ref q2, .ref q3, .ref q4, .int 0, .ref q6, .int 0, .ref q8, .ref q9, .ref q10, .ref q11, .ref q12, .ref q13, .ref q14, .null, .null, .null, .null, .null, .int 0])), (q0, .inl (c0, 1024, .inl (fun _ => 0))), (q1, .inl (c1, 512, .inl (fun _ => 0))), (q2, .inl (c2, 512, .inl (fun _ => 0))), (q3, .inl (c3, 512, .inl (fun _ => 0))), (q4, .inl (c4, 512, .inl (fun _ => 0))), (q6, .inl (c6, 512, .inl (fun _ => 0))), (q8, .inl (c8, 6, .inl (fun _ => 0))), (q9, .inl (c9, 4, .inl (fun _ => 0))), (q10, .inl (c10, 4, .inl (fun _ => 0))), (q11, .inl (c11, 4, .inl (fun _ => 0))), (q12, .inl (c12, 4, .inl (fun _ => 0))), (q13, .inl (c13, 4, .inl (fun _ => 0))), (q14, .inl (c14, 24, .inl (fun _ => 0))), (q15, .inl (c15, 24, .inl (fun _ => 0)))] := hD
  refine va_putF (D := D) (ci := 0) (v := .ref q15) (ty := (.array .int)) (C := RX0) (T := TX0) (N := 21) hx hb hts in_X0 tyX0 tyX0_ok nmX0 hown hK hP hD hS 0 rfl rfl 15 (by decide) (hts _ q45) (fun _ h9 => h9) rfl hin rfl (by decide +kernel) rfl rfl (Nat.le_of_ble_eq_true rfl) dX0_init_114 (fun H locs hP hD hS => ?_)
  have hP : va_P D cLs [(h, .inr (0, [.ref q0, .ref q1, .ref q2, .ref q3, .ref q4, .int 0, .ref q6, .int 0, .ref q8, .ref q9, .ref q10, .ref q11, .ref q12, .ref q13, .ref q14, .ref q15, .null, .null, .null, .null, .int 0])), (q0, .inl (c0, 1024, .inl (fun _ => 0))), (q1, .inl (c1, 512, .inl (fun _ => 0))), (q2, .inl (c2, 512, .inl (fun _ => 0))), (q3, .inl (c3, 512, .inl (fun _ => 0))), (q4, .inl (c4, 512, .inl (fun _ => 0))), (q6, .inl (c6, 512, .inl (fun _ => 0))), (q8, .inl (c8, 6, .inl (fun _ => 0))), (q9, .inl (c9, 4, .inl (fun _ => 0))), (q10, .inl (c10, 4, .inl (fun _ => 0))), (q11, .inl (c11, 4, .inl (fun _ => 0))), (q12, .inl (c12, 4, .inl (fun _ => 0))), (q13, .inl (c13, 4, .inl (fun _ => 0))), (q14, .inl (c14, 24, .inl (fun _ => 0))), (q15, .inl (c15, 24, .inl (fun _ => 0)))] H := hP
  have hD : va_D A [(h, .inr (0, [.ref q0, .ref q1, .ref q2, .ref q3, .ref q4, .int 0, .ref q6, .int 0, .ref q8, .ref q9, .ref q10, .ref q11, .ref q12, .ref q13, .ref q14, .ref q15, .null, .null, .null, .null, .int 0])), (q0, .inl (c0, 1024, .inl (fun _ => 0))), (q1, .inl (c1, 512, .inl (fun _ => 0))), (q2, .inl (c2, 512, .inl (fun _ => 0))), (q3, .inl (c3, 512, .inl (fun _ => 0))), (q4, .inl (c4, 512, .inl (fun _ => 0))), (q6, .inl (c6, 512, .inl (fun _ => 0))), (q8, .inl (c8, 6, .inl (fun _ => 0))), (q9, .inl (c9, 4, .inl (fun _ => 0))), (q10, .inl (c10, 4, .inl (fun _ => 0))), (q11, .inl (c11, 4, .inl (fun _ => 0))), (q12, .inl (c12, 4, .inl (fun _ => 0))), (q13, .inl (c13, 4, .inl (fun _ => 0))), (q14, .inl (c14, 24, .inl (fun _ => 0))), (q15, .inl (c15, 24, .inl (fun _ => 0)))] := hD
  refine lv_aload_n hx hb dX0_init_117 rfl (lv_at hl 0 rfl) ?_
  refine lv_bipush (v := nI 24) hx hb dX0_init_118 (by decide) ?_
  refine va_newa (atype := .boolean) (ty := .boolean) (n := nI 24) (a0 := (24, .inl (fun _ => 0))) (N' := 24) hx hb (hts _ q96) rfl hK hP hD hS hA (fun _ => rfl) (by decide) (by decide) (by decide) (Nat.le_of_ble_eq_true rfl) (Nat.le_of_ble_eq_true rfl) dX0_init_120 (fun q16 c16 H hK hP hD hS => ?_)
  refine W.widen (k := 15) (n := 3682) (Nat.le_of_ble_eq_true rfl) (Nat.le_of_ble_eq_true rfl) ?_
  have hP : va_P D cLs [(h, .inr (0, [.ref q0, .ref q1, .ref q2, .ref q3, .ref q4, .int 0, .ref q6, .int 0, .ref q8, .ref q9, .ref q10, .ref q11, .ref q12, .ref q13, .ref q14, .ref q15, .null, .null, .null, .null, .int 0])), (q0, .inl (c0, 1024, .inl (fun _ => 0))), (q1, .inl (c1, 512, .inl (fun _ => 0))), (q2, .inl (c2, 512, .inl (fun _ => 0))), (q3, .inl (c3, 512, .inl (fun _ => 0))), (q4, .inl (c4, 512, .inl (fun _ => 0))), (q6, .inl (c6, 512, .inl (fun _ => 0))), (q8, .inl (c8, 6, .inl (fun _ => 0))), (q9, .inl (c9, 4, .inl (fun _ => 0))), (q10, .inl (c10, 4, .inl (fun _ => 0))), (q11, .inl (c11, 4, .inl (fun _ => 0))), (q12, .inl (c12, 4, .inl (fun _ => 0))), (q13, .inl (c13, 4, .inl (fun _ => 0))), (q14, .inl (c14, 24, .inl (fun _ => 0))), (q15, .inl (c15, 24, .inl (fun _ => 0))), (q16, .inl (c16, 24, .inl (fun _ => 0)))] H := hP
  have hD : va_D A [(h, .inr (0, [.ref q0, .ref q1, .ref q2, .ref q3, .ref q4, .int 0, .ref q6, .int 0, .ref q8, .ref q9, .ref q10, .ref q11, .ref q12, .ref q13, .ref q14, .ref q15, .null, .null, .null, .null, .int 0])), (q0, .inl (c0, 1024, .inl (fun _ => 0))), (q1, .inl (c1, 512, .inl (fun _ => 0))), (q2, .inl (c2, 512, .inl (fun _ => 0))), (q3, .inl (c3, 512, .inl (fun _ => 0))), (q4, .inl (c4, 512, .inl (fun _ => 0))), (q6, .inl (c6, 512, .inl (fun _ => 0))), (q8, .inl (c8, 6, .inl (fun _ => 0))), (q9, .inl (c9, 4, .inl (fun _ => 0))), (q10, .inl (c10, 4, .inl (fun _ => 0))), (q11, .inl (c11, 4, .inl (fun _ => 0))), (q12, .inl (c12, 4, .inl (fun _ => 0))), (q13, .inl (c13, 4, .inl (fun _ => 0))), (q14, .inl (c14, 24, .inl (fun _ => 0))), (q15, .inl (c15, 24, .inl (fun _ => 0))), (q16, .inl (c16, 24, .inl (fun _ => 0)))] := hD
  refine va_putF (D := D) (ci := 0) (v := .ref q16) (ty := (.array .boolean)) (C := RX0) (T := TX0) (N := 21) hx hb hts in_X0 tyX0 tyX0_ok nmX0 hown hK hP hD hS 0 rfl rfl 16 (by decide) (hts _ q46) (fun _ h9 => h9) rfl hin rfl (by decide +kernel) rfl rfl (Nat.le_of_ble_eq_true rfl) dX0_init_122 (fun H locs hP hD hS => ?_)
  have hP : va_P D cLs [(h, .inr (0, [.ref q0, .ref q1, .ref q2, .ref q3, .ref q4, .int 0, .ref q6, .int 0, .ref q8, .ref q9, .ref q10, .ref q11, .ref q12, .ref q13, .ref q14, .ref q15, .ref q16, .null, .null, .null, .int 0])), (q0, .inl (c0, 1024, .inl (fun _ => 0))), (q1, .inl (c1, 512, .inl (fun _ => 0))), (q2, .inl (c2, 512, .inl (fun _ => 0))), (q3, .inl (c3, 512, .inl (fun _ => 0))), (q4, .inl (c4, 512, .inl (fun _ => 0))), (q6, .inl (c6, 512, .inl (fun _ => 0))), (q8, .inl (c8, 6, .inl (fun _ => 0))), (q9, .inl (c9, 4, .inl (fun _ => 0))), (q10, .inl (c10, 4, .inl (fun _ => 0))), (q11, .inl (c11, 4, .inl (fun _ => 0))), (q12, .inl (c12, 4, .inl (fun _ => 0))), (q13, .inl (c13, 4, .inl (fun _ => 0))), (q14, .inl (c14, 24, .inl (fun _ => 0))), (q15, .inl (c15, 24, .inl (fun _ => 0))), (q16, .inl (c16, 24, .inl (fun _ => 0)))] H := hP
  have hD : va_D A [(h, .inr (0, [.ref q0, .ref q1, .ref q2, .ref q3, .ref q4, .int 0, .ref q6, .int 0, .ref q8, .ref q9, .ref q10, .ref q11, .ref q12, .ref q13, .ref q14, .ref q15, .ref q16, .null, .null, .null, .int 0])), (q0, .inl (c0, 1024, .inl (fun _ => 0))), (q1, .inl (c1, 512, .inl (fun _ => 0))), (q2, .inl (c2, 512, .inl (fun _ => 0))), (q3, .inl (c3, 512, .inl (fun _ => 0))), (q4, .inl (c4, 512, .inl (fun _ => 0))), (q6, .inl (c6, 512, .inl (fun _ => 0))), (q8, .inl (c8, 6, .inl (fun _ => 0))), (q9, .inl (c9, 4, .inl (fun _ => 0))), (q10, .inl (c10, 4, .inl (fun _ => 0))), (q11, .inl (c11, 4, .inl (fun _ => 0))), (q12, .inl (c12, 4, .inl (fun _ => 0))), (q13, .inl (c13, 4, .inl (fun _ => 0))), (q14, .inl (c14, 24, .inl (fun _ => 0))), (q15, .inl (c15, 24, .inl (fun _ => 0))), (q16, .inl (c16, 24, .inl (fun _ => 0)))] := hD
  refine lv_aload_n hx hb dX0_init_125 rfl (lv_at hl 0 rfl) ?_
  refine lv_bipush (v := nI 16) hx hb dX0_init_126 (by decide) ?_
  refine va_newa (atype := .short) (ty := .short) (n := nI 16) (a0 := (16, .inl (fun _ => 0))) (N' := 16) hx hb (hts _ q94) rfl hK hP hD hS hA (fun _ => rfl) (by decide) (by decide) (by decide) (Nat.le_of_ble_eq_true rfl) (Nat.le_of_ble_eq_true rfl) dX0_init_128 (fun q17 c17 H hK hP hD hS => ?_)
  refine W.widen (k := 16) (n := 3698) (Nat.le_of_ble_eq_true rfl) (Nat.le_of_ble_eq_true rfl) ?_
  have hP : va_P D cLs [(h, .inr (0, [.ref q0, .ref q1, .ref q2, .ref q3, .ref q4, .int 0, .ref q6, .int 0, .ref q8, .ref q9, .ref q10, .ref q11, .ref q12, .ref q13, .ref q14, .ref q15, .ref q16, .null, .null, .null, .int 0])), (q0, .inl (c0, 1024, .inl (fun _ => 0))), (q1, .inl (c1, 512, .inl (fun _ => 0))), (q2, .inl (c2, 512, .inl (fun _ => 0))), (q3, .inl (c3, 512, .inl (fun _ => 0))), (q4, .inl (c4, 512, .inl (fun _ => 0))), (q6, .inl (c6, 512, .inl (fun _ => 0))), (q8, .inl (c8, 6, .inl (fun _ => 0))), (q9, .inl (c9, 4, .inl (fun _ => 0))), (q10, .inl (c10, 4, .inl (fun _ => 0))), (q11, .inl (c11, 4, .inl (fun _ => 0))), (q12, .inl (c12, 4, .inl (fun _ => 0))), (q13, .inl (c13, 4, .inl (fun _ => 0))), (q14, .inl (c14, 24, .inl (fun _ => 0))), (q15, .inl (c15, 24, .inl (fun _ => 0))), (q16, .inl (c16, 24, .inl (fun _ => 0))), (q17, .inl (c17, 16, .inl (fun _ => 0)))] H := hP
  have hD : va_D A [(h, .inr (0, [.ref q0, .ref q1, .ref q2, .ref q3, .ref q4, .int 0, .ref q6, .int 0, .ref q8, .ref q9, .ref q10, .ref q11, .ref q12, .ref q13, .ref q14, .ref q15, .ref q16, .null, .null, .null, .int 0])), (q0, .inl (c0, 1024, .inl (fun _ => 0))), (q1, .inl (c1, 512, .inl (fun _ => 0))), (q2, .inl (c2, 512, .inl (fun _ => 0))), (q3, .inl (c3, 512, .inl (fun _ => 0))), (q4, .inl (c4, 512, .inl (fun _ => 0))), (q6, .inl (c6, 512, .inl (fun _ => 0))), (q8, .inl (c8, 6, .inl (fun _ => 0))), (q9, .inl (c9, 4, .inl (fun _ => 0))), (q10, .inl (c10, 4, .inl (fun _ => 0))), (q11, .inl (c11, 4, .inl (fun _ => 0))), (q12, .inl (c12, 4, .inl (fun _ => 0))), (q13, .inl (c13, 4, .inl (fun _ => 0))), (q14, .inl (c14, 24, .inl (fun _ => 0))), (q15, .inl (c15, 24, .inl (fun _ => 0))), (q16, .inl (c16, 24, .inl (fun _ => 0))), (q17, .inl (c17, 16, .inl (fun _ => 0)))] := hD
  refine va_putF (D := D) (ci := 0) (v := .ref q17) (ty := (.array .short)) (C := RX0) (T := TX0) (N := 21) hx hb hts in_X0 tyX0 tyX0_ok nmX0 hown hK hP hD hS 0 rfl rfl 17 (by decide) (hts _ q47) (fun _ h9 => h9) rfl hin rfl (by decide +kernel) rfl rfl (Nat.le_of_ble_eq_true rfl) dX0_init_130 (fun H locs hP hD hS => ?_)
  have hP : va_P D cLs [(h, .inr (0, [.ref q0, .ref q1, .ref q2, .ref q3, .ref q4, .int 0, .ref q6, .int 0, .ref q8, .ref q9, .ref q10, .ref q11, .ref q12, .ref q13, .ref q14, .ref q15, .ref q16, .ref q17, .null, .null, .int 0])), (q0, .inl (c0, 1024, .inl (fun _ => 0))), (q1, .inl (c1, 512, .inl (fun _ => 0))), (q2, .inl (c2, 512, .inl (fun _ => 0))), (q3, .inl (c3, 512, .inl (fun _ => 0))), (q4, .inl (c4, 512, .inl (fun _ => 0))), (q6, .inl (c6, 512, .inl (fun _ => 0))), (q8, .inl (c8, 6, .inl (fun _ => 0))), (q9, .inl (c9, 4, .inl (fun _ => 0))), (q10, .inl (c10, 4, .inl (fun _ => 0))), (q11, .inl (c11, 4, .inl (fun _ => 0))), (q12, .inl (c12, 4, .inl (fun _ => 0))), (q13, .inl (c13, 4, .inl (fun _ => 0))), (q14, .inl (c14, 24, .inl (fun _ => 0))), (q15, .inl (c15, 24, .inl (fun _ => 0))), (q16, .inl (c16, 24, .inl (fun _ => 0))), (q17, .inl (c17, 16, .inl (fun _ => 0)))] H := hP
  have hD : va_D A [(h, .inr (0, [.ref q0, .ref q1, .ref q2, .ref q3, .ref q4, .int 0, .ref q6, .int 0, .ref q8, .ref q9, .ref q10, .ref q11, .ref q12, .ref q13, .ref q14, .ref q15, .ref q16, .ref q17, .null, .null, .int 0])), (q0, .inl (c0, 1024, .inl (fun _ => 0))), (q1, .inl (c1, 512, .inl (fun _ => 0))), (q2, .inl (c2, 512, .inl (fun _ => 0))), (q3, .inl (c3, 512, .inl (fun _ => 0))), (q4, .inl (c4, 512, .inl (fun _ => 0))), (q6, .inl (c6, 512, .inl (fun _ => 0))), (q8, .inl (c8, 6, .inl (fun _ => 0))), (q9, .inl (c9, 4, .inl (fun _ => 0))), (q10, .inl (c10, 4, .inl (fun _ => 0))), (q11, .inl (c11, 4, .inl (fun _ => 0))), (q12, .inl (c12, 4, .inl (fun _ => 0))), (q13, .inl (c13, 4, .inl (fun _ => 0))), (q14, .inl (c14, 24, .inl (fun _ => 0))), (q15, .inl (c15, 24, .inl (fun _ => 0))), (q16, .inl (c16, 24, .inl (fun _ => 0))), (q17, .inl (c17, 16, .inl (fun _ => 0)))] := hD
  refine lv_aload_n hx hb dX0_init_133 rfl (lv_at hl 0 rfl) ?_
  refine lv_bipush (v := nI 16) hx hb dX0_init_134 (by decide) ?_
  refine va_newa (atype := .byte) (ty := .byte) (n := nI 16) (a0 := (16, .inl (fun _ => 0))) (N' := 16) hx hb (hts _ q97) rfl hK hP hD hS hA (fun _ => rfl) (by decide) (by decide) (by decide) (Nat.le_of_ble_eq_true rfl) (Nat.le_of_ble_eq_true rfl) dX0_init_136 (fun q18 c18 H hK hP hD hS => ?_)
  refine W.widen (k := 17) (n := 3714) (Nat.le_of_ble_eq_true rfl) (Nat.le_of_ble_eq_true rfl) ?_
  have hP : va_P D cLs [(h, .inr (0, [.ref q0, .ref q1, .ref q2, .ref q3, .ref q4, .int 0, .ref q6, .int 0, .ref q8, .ref q9, .ref q10, .ref q11, .ref q12, .ref q13, .ref q14, .ref q15, .ref q16, .ref q17, .null, .null, .int 0])), (q0, .inl (c0, 1024, .inl (fun _ => 0))), (q1, .inl (c1, 512, .inl (fun _ => 0))), (q2, .inl (c2, 512, .inl (fun _ => 0))), (q3, .inl (c3, 512, .inl (fun _ => 0))), (q4, .inl (c4, 512, .inl (fun _ => 0))), (q6, .inl (c6, 512, .inl (fun _ => 0))), (q8, .inl (c8, 6, .inl (fun _ => 0))), (q9, .inl (c9, 4, .inl (fun _ => 0))), (q10, .inl (c10, 4, .inl (fun _ => 0))), (q11, .inl (c11, 4, .inl (fun _ => 0))), (q12, .inl (c12, 4, .inl (fun _ => 0))), (q13, .inl (c13, 4, .inl (fun _ => 0))), (q14, .inl (c14, 24, .inl (fun _ => 0))), (q15, .inl (c15, 24, .inl (fun _ => 0))), (q16, .inl (c16, 24, .inl (fun _ => 0))), (q17, .inl (c17, 16, .inl (fun _ => 0))), (q18, .inl (c18, 16, .inl (fun _ => 0)))] H := hP
  have hD : va_D A [(h, .inr (0, [.ref q0, .ref q1, .ref q2, .ref q3, .ref q4, .int 0, .ref q6, .int 0, .ref q8, .ref q9, .ref q10, .ref q11, .ref q12, .ref q13, .ref q14, .ref q15, .ref q16, .ref q17, .null, .null, .int 0])), (q0, .inl (c0, 1024, .inl (fun _ => 0))), (q1, .inl (c1, 512, .inl (fun _ => 0))), (q2, .inl (c2, 512, .inl (fun _ => 0))), (q3, .inl (c3, 512, .inl (fun _ => 0))), (q4, .inl (c4, 512, .inl (fun _ => 0))), (q6, .inl (c6, 512, .inl (fun _ => 0))), (q8, .inl (c8, 6, .inl (fun _ => 0))), (q9, .inl (c9, 4, .inl (fun _ => 0))), (q10, .inl (c10, 4, .inl (fun _ => 0))), (q11, .inl (c11, 4, .inl (fun _ => 0))), (q12, .inl (c12, 4, .inl (fun _ => 0))), (q13, .inl (c13, 4, .inl (fun _ => 0))), (q14, .inl (c14, 24, .inl (fun _ => 0))), (q15, .inl (c15, 24, .inl (fun _ => 0))), (q16, .inl (c16, 24, .inl (fun _ => 0))), (q17, .inl (c17, 16, .inl (fun _ => 0))), (q18, .inl (c18, 16, .inl (fun _ => 0)))] := hD
  refine va_putF (D := D) (ci := 0) (v := .ref q18) (ty := (.array .byte)) (C := RX0) (T := TX0) (N := 21) hx hb hts in_X0 tyX0 tyX0_ok nmX0 hown hK hP hD hS 0 rfl rfl 18 (by decide) (hts _ q48) (fun _ h9 => h9) rfl hin rfl (by decide +kernel) rfl rfl (Nat.le_of_ble_eq_true rfl) dX0_init_138 (fun H locs hP hD hS => ?_)
  have hP : va_P D cLs [(h, .inr (0, [.ref q0, .ref q1, .ref q2, .ref q3, .ref q4, .int 0, .ref q6, .int 0, .ref q8, .ref q9, .ref q10, .ref q11, .ref q12, .ref q13, .ref q14, .ref q15, .ref q16, .ref q17, .ref q18, .null, .int 0])), (q0, .inl (c0, 1024, .inl (fun _ => 0))), (q1, .inl (c1, 512, .inl (fun _ => 0))), (q2, .inl (c2, 512, .inl (fun _ => 0))), (q3, .inl (c3, 512, .inl (fun _ => 0))), (q4, .inl (c4, 512, .inl (fun _ => 0))), (q6, .inl (c6, 512, .inl (fun _ => 0))), (q8, .inl (c8, 6, .inl (fun _ => 0))), (q9, .inl (c9, 4, .inl (fun _ => 0))), (q10, .inl (c10, 4, .inl (fun _ => 0))), (q11, .inl (c11, 4, .inl (fun _ => 0))), (q12, .inl (c12, 4, .inl (fun _ => 0))), (q13, .inl (c13, 4, .inl (fun _ => 0))), (q14, .inl (c14, 24, .inl (fun _ => 0))), (q15, .inl (c15, 24, .inl (fun _ => 0))), (q16, .inl (c16, 24, .inl (fun _ => 0))), (q17, .inl (c17, 16, .inl (fun _ => 0))), (q18, .inl (c18, 16, .inl (fun _ => 0)))] H := hP
  have hD : va_D A [(h, .inr (0, [.ref q0, .ref q1, .ref q2, .ref q3, .ref q4, .int 0, .ref q6, .int 0, .ref q8, .ref q9, .ref q10, .ref q11, .ref q12, .ref q13, .ref q14, .ref q15, .ref q16, .ref q17, .ref q18, .null, .int 0])), (q0, .inl (c0, 1024, .inl (fun _ => 0))), (q1, .inl (c1, 512, .inl (fun _ => 0))), (q2, .inl (c2, 512, .inl (fun _ => 0))), (q3, .inl (c3, 512, .inl (fun _ => 0))), (q4, .inl (c4, 512, .inl (fun _ => 0))), (q6, .inl (c6, 512, .inl (fun _ => 0))), (q8, .inl (c8, 6, .inl (fun _ => 0))), (q9, .inl (c9, 4, .inl (fun _ => 0))), (q10, .inl (c10, 4, .inl (fun _ => 0))), (q11, .inl (c11, 4, .inl (fun _ => 0))), (q12, .inl (c12, 4, .inl (fun _ => 0))), (q13, .inl (c13, 4, .inl (fun _ => 0))), (q14, .inl (c14, 24, .inl (fun _ => 0))), (q15, .inl (c15, 24, .inl (fun _ => 0))), (q16, .inl (c16, 24, .inl (fun _ => 0))), (q17, .inl (c17, 16, .inl (fun _ => 0))), (q18, .inl (c18, 16, .inl (fun _ => 0)))] := hD
  refine lv_aload_n hx hb dX0_init_141 rfl (lv_at hl 0 rfl) ?_
  refine lv_bipush (v := nI 16) hx hb dX0_init_142 (by decide) ?_
  refine va_newa (atype := .byte) (ty := .byte) (n := nI 16) (a0 := (16, .inl (fun _ => 0))) (N' := 16) hx hb (hts _ q97) rfl hK hP hD hS hA (fun _ => rfl) (by decide) (by decide) (by decide) (Nat.le_of_ble_eq_true rfl) (Nat.le_of_ble_eq_true rfl) dX0_init_144 (fun q19 c19 H hK hP hD hS => ?_)
  refine W.widen (k := 18) (n := 3730) (Nat.le_of_ble_eq_true rfl) (Nat.le_of_ble_eq_true rfl) ?_
  have hP : va_P D cLs [(h, .inr (0, [.ref q0, .ref q1, .ref q2, .ref q3, .ref q4, .int 0, .ref q6, .int 0, .ref q8, .ref q9, .ref q10, .ref q11, .ref q12, .ref q13, .ref q14, .ref q15, .ref q16, .ref q17, .ref q18, .null, .int 0])), (q0, .inl (c0, 1024, .inl (fun _ => 0))), (q1, .inl (c1, 512, .inl (fun _ => 0))), (q2, .inl (c2, 512, .inl (fun _ => 0))), (q3, .inl (c3, 512, .inl (fun _ => 0))), (q4, .inl (c4, 512, .inl (fun _ => 0))), (q6, .inl (c6, 512, .inl (fun _ => 0))), (q8, .inl (c8, 6, .inl (fun _ => 0))), (q9, .inl (c9, 4, .inl (fun _ => 0))), (q10, .inl (c10, 4, .inl (fun _ => 0))), (q11, .inl (c11, 4, .inl (fun _ => 0))), (q12, .inl (c12, 4, .inl (fun _ => 0))), (q13, .inl (c13, 4, .inl (fun _ => 0))), (q14, .inl (c14, 24, .inl (fun _ => 0))), (q15, .inl (c15, 24, .inl (fun _ => 0))), (q16, .inl (c16, 24, .inl (fun _ => 0))), (q17, .inl (c17, 16, .inl (fun _ => 0))), (q18, .inl (c18, 16, .inl (fun _ => 0))), (q19, .inl (c19, 16, .inl (fun _ => 0)))] H := hP
  have hD : va_D A [(h, .inr (0, [.ref q0, .ref q1, .ref q2, .ref q3, .ref q4, .int 0, .ref q6, .int 0, .ref q8, .ref q9, .ref q10, .ref q11, .ref q12, .ref q13, .ref q14, .ref q15, .ref q16, .ref q17, .ref q18, .null, .int 0])), (q0, .inl (c0, 1024, .inl (fun _ => 0))), (q1, .inl (c1, 512, .inl (fun _ => 0))), (q2, .inl (c2, 512, .inl (fun _ => 0))), (q3, .inl (c3, 512, .inl (fun _ => 0))), (q4, .inl (c4, 512, .inl (fun _ => 0))), (q6, .inl (c6, 512, .inl (fun _ => 0))), (q8, .inl (c8, 6, .inl (fun _ => 0))), (q9, .inl (c9, 4, .inl (fun _ => 0))), (q10, .inl (c10, 4, .inl (fun _ => 0))), (q11, .inl (c11, 4, .inl (fun _ => 0))), (q12, .inl (c12, 4, .inl (fun _ => 0))), (q13, .inl (c13, 4, .inl (fun _ => 0))), (q14, .inl (c14, 24, .inl (fun _ => 0))), (q15, .inl (c15, 24, .inl (fun _ => 0))), (q16, .inl (c16, 24, .inl (fun _ => 0))), (q17, .inl (c17, 16, .inl (fun _ => 0))), (q18, .inl (c18, 16, .inl (fun _ => 0))), (q19, .inl (c19, 16, .inl (fun _ => 0)))] := hD
  refine va_putF (D := D) (ci := 0) (v := .ref q19) (ty := (.array .byte)) (C := RX0) (T := TX0) (N := 21) hx hb hts in_X0 tyX0 tyX0_ok nmX0 hown hK hP hD hS 0 rfl rfl 19 (by decide) (hts _ q49) (fun _ h9 => h9) rfl hin rfl (by decide +kernel) rfl rfl (Nat.le_of_ble_eq_true rfl) dX0_init_146 (fun H locs hP hD hS => ?_)
  have hP : va_P D cLs [(h, .inr (0, [.ref q0, .ref q1, .ref q2, .ref q3, .ref q4, .int 0, .ref q6, .int 0, .ref q8, .ref q9, .ref q10, .ref q11, .ref q12, .ref q13, .ref q14, .ref q15, .ref q16, .ref q17, .ref q18, .ref q19, .int 0])), (q0, .inl (c0, 1024, .inl (fun _ => 0))), (q1, .inl (c1, 512, .inl (fun _ => 0))), (q2, .inl (c2, 512, .inl (fun _ => 0))), (q3, .inl (c3, 512, .inl (fun _ => 0))), (q4, .inl (c4, 512, .inl (fun _ => 0))), (q6, .inl (c6, 512, .inl (fun _ => 0))), (q8, .inl (c8, 6, .inl (fun _ => 0))), (q9, .inl (c9, 4, .inl (fun _ => 0))), (q10, .inl (c10, 4, .inl (fun _ => 0))), (q11, .inl (c11, 4, .inl (fun _ => 0))), (q12, .inl (c12, 4, .inl (fun _ => 0))), (q13, .inl (c13, 4, .inl (fun _ => 0))), (q14, .inl (c14, 24, .inl (fun _ => 0))), (q15, .inl (c15, 24, .inl (fun _ => 0))), (q16, .inl (c16, 24, .inl (fun _ => 0))), (q17, .inl (c17, 16, .inl (fun _ => 0))), (q18, .inl (c18, 16, .inl (fun _ => 0))), (q19, .inl (c19, 16, .inl (fun _ => 0)))] H := hP
  have hD : va_D A [(h, .inr (0, [.ref q0, .ref q1, .ref q2, .ref q3, .ref q4, .int 0, .ref q6, .int 0, .ref q8, .ref q9, .ref q10, .ref q11, .ref q12, .ref q13, .ref q14, .ref q15, .ref q16, .ref q17, .ref q18, .ref q19, .int 0])), (q0, .inl (c0, 1024, .inl (fun _ => 0))), (q1, .inl (c1, 512, .inl (fun _ => 0))), (q2, .inl (c2, 512, .inl (fun _ => 0))), (q3, .inl (c3, 512, .inl (fun _ => 0))), (q4, .inl (c4, 512, .inl (fun _ => 0))), (q6, .inl (c6, 512, .inl (fun _ => 0))), (q8, .inl (c8, 6, .inl (fun _ => 0))), (q9, .inl (c9, 4, .inl (fun _ => 0))), (q10, .inl (c10, 4, .inl (fun _ => 0))), (q11, .inl (c11, 4, .inl (fun _ => 0))), (q12, .inl (c12, 4, .inl (fun _ => 0))), (q13, .inl (c13, 4, .inl (fun _ => 0))), (q14, .inl (c14, 24, .inl (fun _ => 0))), (q15, .inl (c15, 24, .inl (fun _ => 0))), (q16, .inl (c16, 24, .inl (fun _ => 0))), (q17, .inl (c17, 16, .inl (fun _ => 0))), (q18, .inl (c18, 16, .inl (fun _ => 0))), (q19, .inl (c19, 16, .inl (fun _ => 0)))] := hD
  refine lv_sipush (v := nI 511) hx hb dX0_init_149 (by decide) ?_
  obtain ⟨ad, ead⟩ : ∃ z : Nat → Nat, z = fun k => ([q0, q1, q2, q3, q4, 0, q6, 0, q8, q9, q10, q11, q12, q13, q14, q15, q16, q17, q18, q19, 0] : List Nat).getD k 0 := ⟨_, rfl⟩
  obtain ⟨d, ed⟩ : ∃ z : Nat → ClassId, z = fun k => ([c0, c1, c2, c3, c4, c0, c6, c0, c8, c9, c10, c11, c12, c13, c14, c15, c16, c17, c18, c19, c0] : List ClassId).getD k c0 := ⟨_, rfl⟩
  have hP : va_P D cLs (WX h ad d (fun _ _ => 0)) H := by rw [ead, ed]; exact hP
  have hD : va_D A (WX h ad d (fun _ _ => 0)) := by rw [ead, ed]; exact hD
  have hK : va_K D cLs (tX d) s := by rw [ed]; exact hK
  clear ead ed
  have E : CallFix p m c cX0_init 2 s ([.ref h] : List Value).toArray lw_all RX0 := ⟨hx, hb, hml, hown, hts⟩
  have w : GW D A s.heap s (tX d) (WX h ad d (fun _ _ => 0)) H locs := ⟨hK, hP, hD, hS, hA⟩
  have ret : ∀ (σ : ST) (H : Heap) (locs : List Loc) (ls : Array Slot), INX σ → GW D A s.heap s (tX d) (WX h ad d σ) H locs → W p l e ({ frames := 1, cells := 18, slots := 3730, locals := 12 }) s m ([.ref h] : List Value).toArray below meth c H locs 18 3730 (MQ below (va_Qv (fun u => INX u.2.2) (BIX D A h) A) ([.ref h] : List Value).toArray s 18 3730 A) (F0 m 225 ls []) := fun σ H locs ls hI w => W.vret hx hb hr (fun t ht hW => ⟨⟨(ad, d, σ), rfl, hI, by rw [ht]; exact w.2.1, va_K.moved hW.alike w.1, w.2.2.1⟩, w.2.2.2.1.F ht⟩) w.2.2.2.1.2.2 dX0_init_225 hlk
  change W p l e ({ frames := 1, cells := 18, slots := 3730, locals := 12 }) s m ([.ref h] : List Value).toArray below meth c H locs 18 3730 (MQ below (va_Qv (fun u => INX u.2.2) (BIX D A h) A) ([.ref h] : List Value).toArray s 18 3730 A) _
  generalize (MQ below (va_Qv (fun u => INX u.2.2) (BIX D A h) A) ([.ref h] : List Value).toArray s 18 3730 A) = Q at ret ⊢
  clear hP hD hK hS hAe hin hts hown hD0 hr hlk
  have loop3 : ∀ (u q : Nat), q + u = 4 → ∀ (σ1 : ST), (∀ j, j < 512 → σ1 6 j = nI (511 - j)) → σ1 5 0 = nI 512 → σ1 7 0 = nI 0 → (∀ t, t < 4 → σ1 9 t = 0) → (∀ j, j < 6 → σ1 8 j = -1) → ∀ (H : Heap) (locs : List Loc) (ls : Array Slot), GW D A s.heap s (tX d) (WX h ad d σ1) H locs → lv_has ls 2 [(1, .int (nI (q))), (0, .ref h)] → W p l e ({ frames := 1, cells := 18, slots := 3730, locals := 12 }) s m ([.ref h] : List Value).toArray below meth c H locs 18 3730 Q (F0 m 207 ls []) := by
    intro u
    induction u with
    | zero =>
      intro q hq σ1 g6 g5 g7 g9 g8 H locs ls w hl
      refine lv_iload_n hx hb dX0_init_207 rfl (lv_at hl 0 rfl) ?_
      refine lv_iconst (v := (nI (4))) hx hb dX0_init_208 (by decide) ?_
      refine lv_icmp_ge (tgt := 225) hx hb dX0_init_209 (by decide) (fun _ => ?_) (fun hn => absurd (nI_le (by omega) (by omega)) hn)
      exact ret σ1 H locs ls ⟨g5, g6, g8, g7, g9⟩ w
    | succ u ih =>
      intro q hq σ1 g6 g5 g7 g9 g8 H locs ls w hl
      refine lv_iload_n hx hb dX0_init_207 rfl (lv_at hl 0 rfl) ?_
      refine lv_iconst (v := (nI (4))) hx hb dX0_init_208 (by decide) ?_
      refine lv_icmp_ge (tgt := 225) hx hb dX0_init_209 (by decide) (fun hn => absurd hn (nI_ge (by omega) (by omega))) (fun _ => ?_)
      refine lv_aload_n hx hb dX0_init_212 rfl (lv_at hl 1 rfl) ?_
      refine x_get (v := .ref (ad 11)) E w 11 (by decide) q41 rfl dX0_init_213 ?_
      refine lv_iload_n hx hb dX0_init_216 rfl (lv_at hl 0 rfl) ?_
      refine lv_iconst (v := (-1)) hx hb dX0_init_217 (by decide) ?_
      refine g_sast (f := σ1 11) (ws' := WX h ad d (su σ1 11 (q) (-1))) E w 10 9 rfl rfl (by omega) (by decide) (ns_m1) rfl dX0_init_218 (fun H locs w => ?_)
      refine lv_iinc (v := (nI (q + 1))) (lv' := [(1, .int (nI (q + 1))), (0, .ref h)]) hx hb dX0_init_219 hl (k := 0) rfl (nI_1 (q)) (by decide) rfl (fun ls hl => ?_)
      refine lv_goto (tgt := 207) hx hb dX0_init_222 (by decide) ?_
      exact ih (q + 1) (by omega) (su σ1 11 (q) (-1)) g6 g5 g7 g9 g8 H locs ls w hl
  have loop2 : ∀ (u q : Nat), q + u = 6 → ∀ (σ1 : ST), (∀ j, j < 512 → σ1 6 j = nI (511 - j)) → σ1 5 0 = nI 512 → σ1 7 0 = nI 0 → (∀ t, t < 4 → σ1 9 t = 0) → (∀ j, j < q → σ1 8 j = -1) → ∀ (H : Heap) (locs : List Loc) (ls : Array Slot), GW D A s.heap s (tX d) (WX h ad d σ1) H locs → lv_has ls 2 [(1, .int (nI (q))), (0, .ref h)] → W p l e ({ frames := 1, cells := 18, slots := 3730, locals := 12 }) s m ([.ref h] : List Value).toArray below meth c H locs 18 3730 Q (F0 m 186 ls []) := by
    intro u
    induction u with
    | zero =>
      intro q hq σ1 g6 g5 g7 g9 g8 H locs ls w hl
      refine lv_iload_n hx hb dX0_init_186 rfl (lv_at hl 0 rfl) ?_
      refine lv_bipush (v := (nI (6))) hx hb dX0_init_187 (by decide) ?_
      refine lv_icmp_ge (tgt := 205) hx hb dX0_init_189 (by decide) (fun _ => ?_) (fun hn => absurd (nI_le (by omega) (by omega)) hn)
      refine lv_iconst (v := (nI (0))) hx hb dX0_init_205 (by decide) ?_
      refine lv_istore_n (lv' := [(1, .int (nI (0))), (0, .ref h)]) hx hb dX0_init_206 rfl hl (by decide) rfl (fun ls hl => ?_)
      exact loop3 4 0 (by omega) σ1 g6 g5 g7 g9 (fun j hj => g8 j (by omega)) H locs ls w hl
    | succ u ih =>
      intro q hq σ1 g6 g5 g7 g9 g8 H locs ls w hl
      refine lv_iload_n hx hb dX0_init_186 rfl (lv_at hl 0 rfl) ?_
      refine lv_bipush (v := (nI (6))) hx hb dX0_init_187 (by decide) ?_
      refine lv_icmp_ge (tgt := 205) hx hb dX0_init_189 (by decide) (fun hn => absurd hn (nI_ge (by omega) (by omega))) (fun _ => ?_)
      refine lv_aload_n hx hb dX0_init_192 rfl (lv_at hl 1 rfl) ?_
      refine x_get (v := .ref (ad 8)) E w 8 (by decide) q38 rfl dX0_init_193 ?_
      refine lv_iload_n hx hb dX0_init_196 rfl (lv_at hl 0 rfl) ?_
      refine lv_iconst (v := (-1)) hx hb dX0_init_197 (by decide) ?_
      refine g_sast (f := σ1 8) (ws' := WX h ad d (su σ1 8 (q) (-1))) E w 7 6 rfl rfl (by omega) (by decide) (ns_m1) rfl dX0_init_198 (fun H locs w => ?_)
      refine lv_iinc (v := (nI (q + 1))) (lv' := [(1, .int (nI (q + 1))), (0, .ref h)]) hx hb dX0_init_199 hl (k := 0) rfl (nI_1 (q)) (by decide) rfl (fun ls hl => ?_)
      refine lv_goto (tgt := 186) hx hb dX0_init_202 (by decide) ?_
      refine ih (q + 1) (by omega) (su σ1 8 (q) (-1)) g6 g5 g7 g9 (fun j hj => ?_) H locs ls w hl
      show upd (σ1 8) q (-1) j = _
      by_cases e : j = q
      · rw [e, pk_us]
      · rw [pk_un e]; exact g8 j (by omega)
  have loop1 : ∀ (u : Nat), u ≤ 512 → ∀ (σ1 : ST), (∀ j, j < 512 - u → σ1 6 j = nI (511 - j)) → σ1 5 0 = nI (512 - u) → σ1 7 0 = nI 0 → (∀ t, t < 4 → σ1 9 t = 0) → ∀ (H : Heap) (locs : List Loc) (ls : Array Slot), GW D A s.heap s (tX d) (WX h ad d σ1) H locs → lv_has ls 2 [(1, .int (bitv u)), (0, .ref h)] → W p l e ({ frames := 1, cells := 18, slots := 3730, locals := 12 }) s m ([.ref h] : List Value).toArray below meth c H locs 18 3730 Q (F0 m 153 ls []) := by
    intro u
    induction u with
    | zero =>
      intro hu σ1 g6 g5 g7 g9 H locs ls w hl
      have hl : lv_has ls 2 [(1, .int (-1)), (0, .ref h)] := hl
      refine lv_iload_n hx hb dX0_init_153 rfl (lv_at hl 0 rfl) ?_
      refine lv_if_lt (tgt := 184) hx hb dX0_init_154 (by decide) (fun _ => ?_) (fun hn => absurd (by decide) hn)
      refine lv_iconst (v := (nI (0))) hx hb dX0_init_184 (by decide) ?_
      refine lv_istore_n (lv' := [(1, .int (nI (0))), (0, .ref h)]) hx hb dX0_init_185 rfl hl (by decide) rfl (fun ls hl => ?_)
      exact loop2 6 0 (by omega) σ1 g6 g5 g7 g9 (fun j hj => absurd hj (by omega)) H locs ls w hl
    | succ u ih =>
      intro hu σ1 g6 g5 g7 g9 H locs ls w hl
      have hl : lv_has ls 2 [(1, .int (nI (u))), (0, .ref h)] := hl
      refine lv_iload_n hx hb dX0_init_153 rfl (lv_at hl 0 rfl) ?_
      refine lv_if_lt (tgt := 184) hx hb dX0_init_154 (by decide) (fun hn => absurd hn (nI_pos (by omega))) (fun _ => ?_)
      refine lv_aload_n hx hb dX0_init_157 rfl (lv_at hl 1 rfl) ?_
      refine x_get (v := .ref (ad 6)) E w 6 (by decide) q36 rfl dX0_init_158 ?_
      refine lv_aload_n hx hb dX0_init_161 rfl (lv_at hl 1 rfl) ?_
      refine x_get (v := .int (σ1 5 0)) E w 5 (by decide) q35 rfl dX0_init_162 ?_
      refine g_eq (y := (nI (512 - (u + 1)))) (g5) ?_
      refine lv_iload_n hx hb dX0_init_165 rfl (lv_at hl 0 rfl) ?_
      refine lv_i2s (v := (nI (u))) hx hb dX0_init_166 (ns_i2s (by omega)) ?_
      refine g_sast (f := σ1 6) (ws' := WX h ad d (su σ1 6 (512 - (u + 1)) (nI (u)))) E w 6 5 rfl rfl (by omega) (by decide) (ns_small (by omega)) rfl dX0_init_167 (fun H locs w => ?_)
      refine lv_aload_n hx hb dX0_init_168 rfl (lv_at hl 1 rfl) ?_
      refine lv_dup hx hb dX0_init_169 rfl ?_
      refine x_get (v := .int (σ1 5 0)) E w 5 (by decide) q35 rfl dX0_init_170 ?_
      refine g_eq (y := (nI (512 - (u + 1)))) (g5) ?_
      refine lv_iconst (v := (nI (1))) hx hb dX0_init_173 (by decide) ?_
      refine n_iadd hx hb dX0_init_174 ?_
      refine g_eq (y := (nI (512 - u))) (congrArg nI (by omega)) ?_
      refine x_put (σ' := (su (su σ1 6 (512 - (u + 1)) (nI (u))) 5 0 (nI (512 - u)))) E w 5 (by decide) q35 rfl (by decide +kernel) rfl dX0_init_175 (fun H locs w => ?_)
      refine lv_iinc (v := (bitv u)) (lv' := [(1, .int (bitv u)), (0, .ref h)]) hx hb dX0_init_178 hl (k := 0) rfl (bitv_dec u) (by decide) rfl (fun ls hl => ?_)
      refine lv_goto (tgt := 153) hx hb dX0_init_181 (by decide) ?_
      refine ih (by omega) (su (su σ1 6 (512 - (u + 1)) (nI (u))) 5 0 (nI (512 - u))) (fun j hj => ?_) rfl g7 g9 H locs ls w hl
      show upd (σ1 6) (512 - (u + 1)) (nI u) j = _
      by_cases e : j = 512 - (u + 1)
      · rw [e, pk_us]; exact congrArg nI (by omega)
      · rw [pk_un e]; exact g6 j (by omega)
  refine lv_istore_n (lv' := [(1, .int (nI (511))), (0, .ref h)]) hx hb dX0_init_152 rfl hl (by decide) rfl (fun ls hl => ?_)
  exact loop1 512 (Nat.le_refl _) (fun _ _ => 0) (fun j hj => absurd hj (by omega)) rfl rfl (fun _ _ => rfl) H locs ls w hl
end
section
set_option maxRecDepth 100000
/-- the stamp of the key k in the tree x, 0 if it was never written -/
def KS (ch st : Nat → Int32) (x : Int32) (k : Nat) : Int32 := if lf ch 5 x k < 0 then nI 0 else st (lf ch 5 x k).toNatClampNeg
theorem KS_m1 {ch st : Nat → Int32} {x : Int32} {k : Nat} (h : lf ch 5 x k = -1) : KS ch st x k = nI 0 := by
  unfold KS
  rw [h, if_pos (by decide)]
theorem KS_nd {ch st : Nat → Int32} {x : Int32} {k q : Nat} (hq : q < 2 ^ 31) (h : lf ch 5 x k = nI q) : KS ch st x k = st q := by
  unfold KS
  rw [h, if_neg (nI_pos hq), nI_clamp hq]
theorem lat_KS {ch st : Nat → Int32} {N b : Nat} {x : Int32} (hN : N ≤ 512) (hb : b < 2 ^ 31) (hT : TV ch st N 5 x) (k : Nat) : lat ch st (nI b) 5 x k = decide (nI b < KS ch st x k) := by
  unfold lat
  rcases lf_ok hN 5 x hT k with h | ⟨m, h1, h2, -⟩
  · rw [KS_m1 h, h, decide_eq_false (fun z => absurd z.1 (by decide)), decide_eq_false (nI_nlt (Nat.zero_le _) hb)]
  · rw [KS_nd (by omega) h2, h2, nI_clamp (by omega)]
    by_cases g : nI b < st m
    · rw [decide_eq_true g, decide_eq_true ⟨nI_pos' (by omega), g⟩]
    · rw [decide_eq_false g, decide_eq_false (fun z => g z.2)]
/-- a state that is kept: tree and tables agree -/
def RK1 (σ μ : ST) (N L a k : Nat) : Prop :=
  μ 1 (32 * (a % 6) + k) = bI (khB (σ 0) (σ 2) (σ 8 (a % 6)) k) ∧ (khB (σ 0) (σ 2) (σ 8 (a % 6)) k = true → μ 2 (32 * (a % 6) + k) = kvB (σ 0) (σ 1) (σ 8 (a % 6)) k) ∧ KS (σ 0) (σ 3) (σ 8 (a % 6)) k ≤ nI a ∧ (1 ≤ a → bt (μ 3 (a % 6)) k = decide (KS (σ 0) (σ 3) (σ 8 (a % 6)) k = nI a)) ∧ (a + 1 ≤ L → KS (σ 0) (σ 3) (σ 8 ((a + 1) % 6)) k = nI (a + 1) ∨ KS (σ 0) (σ 3) (σ 8 ((a + 1) % 6)) k = KS (σ 0) (σ 3) (σ 8 (a % 6)) k)
def RK (σ μ : ST) (N L : Nat) : Prop := ∀ a, a ≤ L → L < a + 6 → TV (σ 0) (σ 3) N 5 (σ 8 (a % 6)) ∧ ∀ k, k < 32 → RK1 σ μ N L a k
/-- an open transaction: base b, v writes, the view f, g -/
def RT1 (σ μ : ST) (N L t b v : Nat) (f : Nat → Bool) (g : Nat → Int32) : Prop :=
  b ≤ L ∧ v ≤ 6 ∧ σ 10 t = nI b ∧ σ 13 t = nI v ∧ TV (σ 0) (σ 3) N 5 (σ 11 t) ∧ σ 12 t = μ 8 t ∧ fb_ct (bt (μ 7 t)) 32 = v ∧ VW σ t v f g ∧ (∀ k, k < 32 → μ 5 (32 * t + k) = bI (f k) ∧ (f k = true → μ 6 (32 * t + k) = g k)) ∧ (∀ k, k < 32 → bt (μ 9 t) k = decide (nI b < KS (σ 0) (σ 3) (σ 8 (L % 6)) k)) ∧ (∀ k, k < 32 → (bt (μ 7 t) k = true ↔ ∃ j, j < v ∧ σ 14 (6 * t + j) = nI k)) ∧ (∀ j, j < v → ∃ k, k < 32 ∧ σ 14 (6 * t + j) = nI k) ∧ ∀ i j, i < v → j < v → σ 14 (6 * t + i) = σ 14 (6 * t + j) → i = j
def RT (σ μ : ST) (N L t : Nat) : Prop := ∃ (b v : Nat) (f : Nat → Bool) (g : Nat → Int32), RT1 σ μ N L t b v f g
/-- how many writes an open transaction holds -/
def pend (σ : ST) (t : Nat) : Nat := if σ 9 t = 0 then 0 else (σ 13 t).toNatClampNeg
/-- THE TWO STATES AGREE, behind c calls -/
def RR1 (σ μ : ST) (c N L : Nat) : Prop :=
  L ≤ c ∧ N + 6 * fb_sm (pend σ) 4 ≤ 6 * c ∧ σ 5 0 = nI (512 - N) ∧ σ 7 0 = nI L ∧ μ 0 0 = nI L ∧ (∀ j, j < 512 → σ 6 j = nI (511 - j)) ∧ (∀ i, i < N → σ 3 i ≤ nI L) ∧ (∀ j, j < 192 → ∃ b, μ 1 j = bI b) ∧ (∀ j, j < 128 → ∃ b, μ 5 j = bI b) ∧ RK σ μ N L ∧ ∀ t, t < 4 → σ 9 t = μ 4 t ∧ (¬ σ 9 t = 0 → RT σ μ N L t)
def RR (σ μ : ST) (c : Nat) : Prop := ∃ N L, RR1 σ μ c N L
theorem RR.next {σ μ : ST} {c : Nat} (h : RR σ μ c) : RR σ μ (c + 1) := by
  obtain ⟨N, L, h1, h2, h3⟩ := h
  exact ⟨N, L, by omega, by omega, h3⟩
/-- one call answers alike on both sides, and the states agree behind it -/
def SIM (σ μ : ST) (c : Nat) (yx : MethodName) (bx : ByteArray) (Lx : Nat) (rx : Option FieldType) (kx : Nat) (ym : MethodName) (bm : ByteArray) (Lm : Nat) (rm' : Option FieldType) (km : Nat) (as : List Value) : Prop :=
  ∃ (rv : Int32) (PX PM : ST → Prop), KMi WX tX yx bx Lx rx kx as σ (fun r σ' => r = rv ∧ PX σ') ∧ KMi WM tM ym bm Lm rm' km as μ (fun r μ' => r = rv ∧ PM μ') ∧ ∀ σ' μ', PX σ' → PM μ' → RR σ' μ' (c + 1)
section SI
variable {σ μ : ST} {c : Nat} {yx : MethodName} {bx : ByteArray} {Lx : Nat} {rx : Option FieldType} {kx : Nat} {ym : MethodName} {bm : ByteArray} {Lm : Nat} {rm' : Option FieldType} {km : Nat} {as : List Value}
theorem SIM.same {rv : Int32} (h : RR σ μ c) (hx : KMi WX tX yx bx Lx rx kx as σ (fun r σ' => r = rv ∧ σ' = σ)) (hm : KMi WM tM ym bm Lm rm' km as μ (fun r μ' => r = rv ∧ μ' = μ)) : SIM σ μ c yx bx Lx rx kx ym bm Lm rm' km as :=
  ⟨rv, fun σ' => σ' = σ, fun μ' => μ' = μ, hx, hm, fun σ' μ' e1 e2 => by rw [e1, e2]; exact h.next⟩
end SI
theorem ixN {x : Int32} {c : Nat} (hc : c < 1000) : (x < 0 ∨ nI c < x) ∨ ∃ j, j < c + 1 ∧ x = nI j := by
  by_cases h1 : x < 0
  · exact Or.inl (Or.inl h1)
  · by_cases h2 : nI c < x
    · exact Or.inl (Or.inr h2)
    · obtain ⟨s, e, hs⟩ := i32_nat hc h1 h2
      exact Or.inr ⟨s, by omega, e⟩
theorem bI_z {x : Int32} (h : ∃ b, x = bI b) : vp_nar .boolean x = x := by
  obtain ⟨b, e⟩ := h
  rw [e, bI_vz]
/-- two sets share no key -/
theorem and_zero {x y : Int32} : x &&& y = 0 ↔ fb_ct (fun k => bt x k && bt y k) 32 = 0 := by
  rw [fb_ct_zero]
  constructor
  · intro h k hk
    rw [← b_and, h, b_0]
  · intro h
    refine b_ext (fun i hi => ?_)
    rw [b_and, b_0]
    exact h i hi
theorem bt_one {k i : Nat} (hk : k < 32) (hi : i < 32) : bt (nI 1 <<< (nI k &&& 31)) i = decide (i = k) := (by decide +kernel : ∀ k, k < 32 → ∀ i, i < 32 → bt (nI 1 <<< (nI k &&& 31)) i = decide (i = k)) k hk i hi
theorem ct_or_in {x : Int32} {k : Nat} (hk : k < 32) (h : bt x k = true) : x ||| (nI 1 <<< (nI k &&& 31)) = x := by
  refine b_ext (fun i hi => ?_)
  rw [b_or, bt_one hk hi]
  by_cases e : i = k
  · rw [e, h, Bool.true_or]
  · rw [decide_eq_false e, Bool.or_false]
theorem ct_or_new {x : Int32} {k : Nat} (hk : k < 32) (h : bt x k = false) : fb_ct (bt (x ||| (nI 1 <<< (nI k &&& 31)))) 32 = fb_ct (bt x) 32 + 1 := by
  have e : fb_ct (bt (x ||| (nI 1 <<< (nI k &&& 31)))) 32 = fb_ct (fun i => if i = k then true else bt x i) 32 := by
    refine fb_ct_cong (fun i hi => ?_)
    rw [b_or, bt_one hk hi]
    by_cases e : i = k
    · rw [if_pos e, decide_eq_true e, Bool.or_true]
    · rw [if_neg e, decide_eq_false e, Bool.or_false]
  have h2 := fb_ct_upd (bt x) true hk
  rw [h] at h2
  rw [e]
  simpa using h2
/-- the sets of the states behind a, up to a + q, by the stamps -/
theorem ors_bt {σ μ : ST} {N L a k : Nat} (hR : RK σ μ N L) (hL : L < 1000) (ha : L < a + 6) (hk : k < 32) : ∀ q, a + q ≤ L → bt (ors (μ 3) a q) k = decide (nI a < KS (σ 0) (σ 3) (σ 8 ((a + q) % 6)) k) := by
  intro q
  induction q with
  | zero =>
    intro h
    obtain ⟨-, -, h3, -⟩ := (hR a h ha).2 k hk
    show bt (nI 0) k = _
    rw [show (nI 0 : Int32) = 0 from nI_0, b_0]
    exact (decide_eq_false (fun z => (fa_of_lt z).2.1 h3)).symm
  | succ q ih =>
    intro h
    have ih := ih (by omega)
    obtain ⟨-, -, -, -, h5⟩ := (hR (a + q) (by omega) (by omega)).2 k hk
    obtain ⟨-, -, -, h4, -⟩ := (hR (a + q + 1) (by omega) (by omega)).2 k hk
    have h4 := h4 (by omega)
    show bt (ors (μ 3) a q ||| μ 3 ((a + 1 + q) % 6)) k = decide (nI a < KS (σ 0) (σ 3) (σ 8 ((a + q + 1) % 6)) k)
    rw [b_or, ih, show a + 1 + q = a + q + 1 by omega, h4]
    rcases h5 (by omega) with e | e
    · rw [e, decide_eq_true (rfl : nI (a + q + 1) = nI (a + q + 1)), Bool.or_true]
      exact (decide_eq_true (nI_lt (by omega) (by omega))).symm
    · by_cases g : KS (σ 0) (σ 3) (σ 8 ((a + q + 1) % 6)) k = nI (a + q + 1)
      · rw [g, decide_eq_true (rfl : nI (a + q + 1) = nI (a + q + 1)), Bool.or_true]
        exact (decide_eq_true (nI_lt (by omega) (by omega))).symm
      · rw [decide_eq_false g, Bool.or_false, e]
end
section
set_option maxRecDepth 100000
section FR
variable {ch ch' st st' hv hv' lv lv' : Nat → Int32} {N : Nat} {x : Int32}
theorem khB_fr (hN : N ≤ 512) (hT : TV ch st N 5 x) (hc : ∀ i, i < 2 * N → ch' i = ch i) (hh : ∀ i, i < N → hv' i = hv i) (k : Nat) : khB ch' hv' x k = khB ch hv x k := by
  unfold khB
  rw [lf_frame hN hc 5 x hT k]
  rcases lf_ok hN 5 x hT k with h | ⟨m, h1, h2, -⟩
  · rw [h, decide_eq_false (fun z => absurd z.1 (by decide)), decide_eq_false (fun z => absurd z.1 (by decide))]
  · rw [h2, nI_clamp (by omega), hh m h1]
theorem kvB_fr (hN : N ≤ 512) (hT : TV ch st N 5 x) (hc : ∀ i, i < 2 * N → ch' i = ch i) (hh : ∀ i, i < N → lv' i = lv i) {k : Nat} (hk : khB ch hv x k = true) : kvB ch' lv' x k = kvB ch lv x k := by
  unfold kvB
  rw [lf_frame hN hc 5 x hT k]
  rcases lf_ok hN 5 x hT k with h | ⟨m, h1, h2, -⟩
  · rw [khB_m1 h] at hk
    exact absurd hk (by decide)
  · rw [h2, nI_clamp (by omega), hh m h1]
theorem KS_fr (hN : N ≤ 512) (hT : TV ch st N 5 x) (hc : ∀ i, i < 2 * N → ch' i = ch i) (hh : ∀ i, i < N → st' i = st i) (k : Nat) : KS ch' st' x k = KS ch st x k := by
  unfold KS
  rw [lf_frame hN hc 5 x hT k]
  rcases lf_ok hN 5 x hT k with h | ⟨m, h1, h2, -⟩
  · rw [h]
    rfl
  · rw [h2, nI_clamp (by omega), hh m h1]
end FR
theorem RT1.move {σ σ' μ μ' : ST} {N N' L L' t b v : Nat} {f : Nat → Bool} {g : Nat → Int32} (hN : N ≤ N') (hN' : N' ≤ 512) (hLL : L ≤ L') (c0 : ∀ i, i < 2 * N → σ' 0 i = σ 0 i) (c1 : ∀ i, i < N → σ' 1 i = σ 1 i ∧ σ' 2 i = σ 2 i ∧ σ' 3 i = σ 3 i)
    (hs : σ' 10 t = σ 10 t ∧ σ' 11 t = σ 11 t ∧ σ' 12 t = σ 12 t ∧ σ' 13 t = σ 13 t) (hw : ∀ j, j < 6 → σ' 14 (6 * t + j) = σ 14 (6 * t + j) ∧ σ' 15 (6 * t + j) = σ 15 (6 * t + j) ∧ σ' 16 (6 * t + j) = σ 16 (6 * t + j)) (hm : μ' 7 t = μ 7 t ∧ μ' 8 t = μ 8 t) (hv : ∀ k, k < 32 → μ' 5 (32 * t + k) = μ 5 (32 * t + k) ∧ μ' 6 (32 * t + k) = μ 6 (32 * t + k))
    (hsn : ∀ b, b ≤ L → ∀ k, k < 32 → bt (μ 9 t) k = decide (nI b < KS (σ 0) (σ 3) (σ 8 (L % 6)) k) → bt (μ' 9 t) k = decide (nI b < KS (σ' 0) (σ' 3) (σ' 8 (L' % 6)) k)) (h : RT1 σ μ N L t b v f g) : RT1 σ' μ' N' L' t b v f g := by
  obtain ⟨r1, r2, r3, r4, r5, r6, r7, r8, r9, r10, r11, r12, r13⟩ := h
  obtain ⟨s1, s2, s3, s4⟩ := hs
  have w14 : ∀ j, j < v → σ' 14 (6 * t + j) = σ 14 (6 * t + j) := fun j hj => (hw j (by omega)).1
  refine ⟨by omega, r2, s1.trans r3, s4.trans r4, ?_, ?_, ?_, fun k hk => ⟨fun j hj hj2 => ?_, fun hno => ?_⟩, fun k hk => ?_, fun k hk => hsn b r1 k hk (r10 k hk), fun k hk => ?_, fun j hj => ?_, fun i j hi hj he => ?_⟩
  · rw [s2]
    exact TV.mono hN hN' c0 (fun i hi => (c1 i hi).2.2) 5 _ r5
  · rw [s3, hm.2]; exact r6
  · rw [hm.1]; exact r7
  · rw [w14 j hj] at hj2
    rw [(hw j (by omega)).2.2, (hw j (by omega)).2.1]
    exact (r8 k hk).1 j hj hj2
  · obtain ⟨g1, g2⟩ := (r8 k hk).2 (fun j hj => by rw [← w14 j hj]; exact hno j hj)
    rw [s2, khB_fr (by omega) r5 c0 (fun i hi => (c1 i hi).2.1) k]
    refine ⟨g1, fun z => ?_⟩
    rw [kvB_fr (by omega) r5 c0 (fun i hi => (c1 i hi).1) (g1.trans z)]
    exact g2 z
  · rw [(hv k hk).1, (hv k hk).2]
    exact r9 k hk
  · rw [hm.1, r11 k hk]
    constructor
    · rintro ⟨j, hj, e⟩
      exact ⟨j, hj, by rw [w14 j hj]; exact e⟩
    · rintro ⟨j, hj, e⟩
      exact ⟨j, hj, by rw [← w14 j hj]; exact e⟩
  · rw [w14 j hj]
    exact r12 j hj
  · rw [w14 i hi, w14 j hj] at he
    exact r13 i j hi hj he
theorem RT.move {σ σ' μ μ' : ST} {N N' L L' t : Nat} (hN : N ≤ N') (hN' : N' ≤ 512) (hLL : L ≤ L') (c0 : ∀ i, i < 2 * N → σ' 0 i = σ 0 i) (c1 : ∀ i, i < N → σ' 1 i = σ 1 i ∧ σ' 2 i = σ 2 i ∧ σ' 3 i = σ 3 i)
    (hs : σ' 10 t = σ 10 t ∧ σ' 11 t = σ 11 t ∧ σ' 12 t = σ 12 t ∧ σ' 13 t = σ 13 t) (hw : ∀ j, j < 6 → σ' 14 (6 * t + j) = σ 14 (6 * t + j) ∧ σ' 15 (6 * t + j) = σ 15 (6 * t + j) ∧ σ' 16 (6 * t + j) = σ 16 (6 * t + j)) (hm : μ' 7 t = μ 7 t ∧ μ' 8 t = μ 8 t) (hv : ∀ k, k < 32 → μ' 5 (32 * t + k) = μ 5 (32 * t + k) ∧ μ' 6 (32 * t + k) = μ 6 (32 * t + k))
    (hsn : ∀ b, b ≤ L → ∀ k, k < 32 → bt (μ 9 t) k = decide (nI b < KS (σ 0) (σ 3) (σ 8 (L % 6)) k) → bt (μ' 9 t) k = decide (nI b < KS (σ' 0) (σ' 3) (σ' 8 (L' % 6)) k)) (h : RT σ μ N L t) : RT σ' μ' N' L' t := by
  obtain ⟨b, v, f, g, h⟩ := h
  exact ⟨b, v, f, g, RT1.move hN hN' hLL c0 c1 hs hw hm hv hsn h⟩
/-- a call that makes no state: what is to be shown -/
theorem RR1.step {σ σ' μ μ' : ST} {c N L : Nat} (h : RR1 σ μ c N L) (hx : ∀ a, a < 9 → σ' a = σ a) (hm : ∀ a, a < 4 → μ' a = μ a) (h5 : ∀ j, j < 128 → ∃ b, μ' 5 j = bI b) (hp : fb_sm (pend σ') 4 ≤ fb_sm (pend σ) 4 + 1) (ht : ∀ t, t < 4 → σ' 9 t = μ' 4 t ∧ (¬ σ' 9 t = 0 → RT σ' μ' N L t)) : RR σ' μ' (c + 1) := by
  obtain ⟨r1, r2, r3, r4, r5, r6, r7, r8, r9, r10, r11⟩ := h
  refine ⟨N, L, by omega, by omega, ?_, ?_, ?_, ?_, ?_, ?_, h5, ?_, ht⟩
  · rw [hx 5 (by decide)]; exact r3
  · rw [hx 7 (by decide)]; exact r4
  · rw [hm 0 (by decide)]; exact r5
  · rw [hx 6 (by decide)]; exact r6
  · rw [hx 3 (by decide)]; exact r7
  · rw [hm 1 (by decide)]; exact r8
  · intro a ha ha6
    have g := r10 a ha ha6
    unfold RK1 at g ⊢
    rw [hx 0 (by decide), hx 1 (by decide), hx 2 (by decide), hx 3 (by decide), hx 8 (by decide), hm 1 (by decide), hm 2 (by decide), hm 3 (by decide)]
    exact g
/-- .. and of the other transactions -/
theorem RT.other {σ σ' μ μ' : ST} {N L t : Nat} (hN : N ≤ 512) (hx : ∀ a, a < 9 → σ' a = σ a) (hs : σ' 10 t = σ 10 t ∧ σ' 11 t = σ 11 t ∧ σ' 12 t = σ 12 t ∧ σ' 13 t = σ 13 t) (hw : ∀ j, j < 6 → σ' 14 (6 * t + j) = σ 14 (6 * t + j) ∧ σ' 15 (6 * t + j) = σ 15 (6 * t + j) ∧ σ' 16 (6 * t + j) = σ 16 (6 * t + j)) (hm : μ' 7 t = μ 7 t ∧ μ' 8 t = μ 8 t ∧ μ' 9 t = μ 9 t) (hv : ∀ k, k < 32 → μ' 5 (32 * t + k) = μ 5 (32 * t + k) ∧ μ' 6 (32 * t + k) = μ 6 (32 * t + k)) (h : RT σ μ N L t) : RT σ' μ' N L t := by
  refine RT.move (Nat.le_refl _) hN (Nat.le_refl _) (fun i _ => by rw [hx 0 (by decide)]) (fun i _ => by rw [hx 1 (by decide), hx 2 (by decide), hx 3 (by decide)]; exact ⟨rfl, rfl, rfl⟩) hs hw ⟨hm.1, hm.2.1⟩ hv (fun b _ k _ e => ?_) h
  rw [hm.2.2, hx 0 (by decide), hx 3 (by decide), hx 8 (by decide)]
  exact e
theorem pend_ne {σ σ' : ST} {t : Nat} (h9 : σ' 9 t = σ 9 t) (h13 : σ' 13 t = σ 13 t) : pend σ' t = pend σ t := by
  unfold pend
  rw [h9, h13]
theorem pend_step {σ σ' : ST} {t d : Nat} (ht : t < 4) (h : ∀ u, u < 4 → u ≠ t → pend σ' u = pend σ u) (hd : pend σ' t ≤ pend σ t + d) : fb_sm (pend σ') 4 ≤ fb_sm (pend σ) 4 + d := by
  have e : ∀ f : Nat → Nat, fb_sm f 4 = f 0 + f 1 + f 2 + f 3 := fun f => by simp [fb_sm]
  rw [e, e]
  rcases (show t = 0 ∨ t = 1 ∨ t = 2 ∨ t = 3 by omega) with g | g | g | g <;> subst g
  · have h1 := h 1 (by decide) (by decide); have h2 := h 2 (by decide) (by decide); have h3 := h 3 (by decide) (by decide); omega
  · have h1 := h 0 (by decide) (by decide); have h2 := h 2 (by decide) (by decide); have h3 := h 3 (by decide) (by decide); omega
  · have h1 := h 0 (by decide) (by decide); have h2 := h 1 (by decide) (by decide); have h3 := h 3 (by decide) (by decide); omega
  · have h1 := h 0 (by decide) (by decide); have h2 := h 1 (by decide) (by decide); have h3 := h 2 (by decide) (by decide); omega
theorem pend_close {σ σ' : ST} {t : Nat} (ht : t < 4) (h : ∀ u, u < 4 → u ≠ t → pend σ' u = pend σ u) (hd : pend σ' t = 0) : fb_sm (pend σ') 4 + pend σ t = fb_sm (pend σ) 4 := by
  have e : ∀ f : Nat → Nat, fb_sm f 4 = f 0 + f 1 + f 2 + f 3 := fun f => by simp [fb_sm]
  rw [e, e]
  rcases (show t = 0 ∨ t = 1 ∨ t = 2 ∨ t = 3 by omega) with g | g | g | g <;> subst g
  · have h1 := h 1 (by decide) (by decide); have h2 := h 2 (by decide) (by decide); have h3 := h 3 (by decide) (by decide); omega
  · have h1 := h 0 (by decide) (by decide); have h2 := h 2 (by decide) (by decide); have h3 := h 3 (by decide) (by decide); omega
  · have h1 := h 0 (by decide) (by decide); have h2 := h 1 (by decide) (by decide); have h3 := h 3 (by decide) (by decide); omega
  · have h1 := h 0 (by decide) (by decide); have h2 := h 1 (by decide) (by decide); have h3 := h 2 (by decide) (by decide); omega
end
section
set_option maxRecDepth 100000
section OP
variable {σ μ : ST} {c : Nat}
theorem op_latest (h : RR σ μ c) (hc : c ≤ 64) : SIM σ μ c yX0_latest cX0_latest 1 (some .int) 0 yX1_latest cX1_latest 1 (some .int) 0 [] := by
  have h0 := h
  obtain ⟨N, L, r1, r2, r3, r4, r5, -⟩ := h
  exact SIM.same h0 (x_latest σ L r4 (by omega)) (m_latest μ L r5 (by omega))
theorem op_begin (h : RR σ μ c) (hc : c ≤ 64) (t : Int32) : SIM σ μ c yX0_begin cX0_begin 2 (some .int) 0 yX1_begin cX1_begin 3 (some .int) 1 [.int t] := by
  rcases ixN (x := t) (c := 3) (by decide) with hb | ⟨n, hn, e⟩
  · exact SIM.same h (x_begin_bad σ t hb) (m_begin_bad μ t hb)
  · subst e
    have h0 := h
    obtain ⟨N, L, h1⟩ := h
    have h2 := h1
    obtain ⟨r1, r2, r3, r4, r5, r6, r7, r8, r9, r10, r11⟩ := h1
    obtain ⟨e4, hRT⟩ := r11 n hn
    by_cases ho : σ 9 n = 0
    · have ho' : μ 4 n = 0 := by rw [← e4]; exact ho
      obtain ⟨tv, hk⟩ := r10 L (Nat.le_refl _) (by omega)
      refine ⟨nI L, _, _, x_begin σ n L r4 (by omega) hn ho (ns_tv (by omega) tv).1, m_begin μ n L r5 (by omega) hn ho' (fun j hj => bI_z (r8 j hj)), ?_⟩
      rintro σ' μ' e ⟨m1, m5, m6⟩
      have n9 : ∀ u, u ≠ n → σ' 9 u = σ 9 u := fun u hu => by rw [e]; show upd (σ 9) n (nI 1) u = _; rw [pk_un hu]
      have n13 : ∀ u, u ≠ n → σ' 13 u = σ 13 u := fun u hu => by rw [e]; show upd (σ 13) n (nI 0) u = _; rw [pk_un hu]
      have y9 : σ' 9 n = nI 1 := by rw [e]; show upd (σ 9) n (nI 1) n = _; rw [pk_us]
      have y10 : σ' 10 n = nI L := by rw [e]; show upd (σ 10) n (nI L) n = _; rw [pk_us]
      have y11 : σ' 11 n = σ 8 (L % 6) := by rw [e]; show upd (σ 11) n (σ 8 (L % 6)) n = _; rw [pk_us]
      have y12 : σ' 12 n = nI 0 := by rw [e]; show upd (σ 12) n (nI 0) n = _; rw [pk_us]
      have y13 : σ' 13 n = nI 0 := by rw [e]; show upd (σ 13) n (nI 0) n = _; rw [pk_us]
      have x9 : ∀ a, a < 9 → σ' a = σ a := fun a ha => by rw [e, su_ne _ _ _ (by omega), su_ne _ _ _ (by omega), su_ne _ _ _ (by omega), su_ne _ _ _ (by omega), su_ne _ _ _ (by omega)]
      have x14 : ∀ a, 13 < a → σ' a = σ a := fun a ha => by rw [e, su_ne _ _ _ (by omega), su_ne _ _ _ (by omega), su_ne _ _ _ (by omega), su_ne _ _ _ (by omega), su_ne _ _ _ (by omega)]
      have x10 : ∀ u, u ≠ n → σ' 10 u = σ 10 u ∧ σ' 11 u = σ 11 u ∧ σ' 12 u = σ 12 u ∧ σ' 13 u = σ 13 u := fun u hu => by
        refine ⟨?_, ?_, ?_, n13 u hu⟩
        · rw [e]; show upd (σ 10) n (nI L) u = _; rw [pk_un hu]
        · rw [e]; show upd (σ 11) n (σ 8 (L % 6)) u = _; rw [pk_un hu]
        · rw [e]; show upd (σ 12) n (nI 0) u = _; rw [pk_un hu]
      have z4 : ∀ a, a < 4 → μ' a = μ a := fun a ha => by rw [m1 a (by omega) (by omega), su_ne _ _ _ (by omega), su_ne _ _ _ (by omega), su_ne _ _ _ (by omega), su_ne _ _ _ (by omega)]
      have zu : ∀ u, u ≠ n → μ' 4 u = μ 4 u ∧ μ' 7 u = μ 7 u ∧ μ' 8 u = μ 8 u ∧ μ' 9 u = μ 9 u := fun u hu => by
        refine ⟨?_, ?_, ?_, ?_⟩
        · rw [m1 4 (by decide) (by decide)]; show upd (μ 4) n (nI 1) u = _; rw [pk_un hu]
        · rw [m1 7 (by decide) (by decide)]; show upd (μ 7) n (nI 0) u = _; rw [pk_un hu]
        · rw [m1 8 (by decide) (by decide)]; show upd (μ 8) n (nI 0) u = _; rw [pk_un hu]
        · rw [m1 9 (by decide) (by decide)]; show upd (μ 9) n (nI 0) u = _; rw [pk_un hu]
      have zn : μ' 4 n = nI 1 ∧ μ' 7 n = 0 ∧ μ' 8 n = nI 0 ∧ μ' 9 n = 0 := by
        refine ⟨?_, ?_, ?_, ?_⟩
        · rw [m1 4 (by decide) (by decide)]; show upd (μ 4) n (nI 1) n = _; rw [pk_us]
        · rw [m1 7 (by decide) (by decide)]; show upd (μ 7) n (nI 0) n = _; rw [pk_us]; rfl
        · rw [m1 8 (by decide) (by decide)]; show upd (μ 8) n (nI 0) n = _; rw [pk_us]
        · rw [m1 9 (by decide) (by decide)]; show upd (μ 9) n (nI 0) n = _; rw [pk_us]; rfl
      refine RR1.step h2 x9 z4 (fun j hj => ?_) ?_ (fun u hu => ?_)
      · rw [m5]
        by_cases g : 32 * n ≤ j ∧ j < 32 * n + 32
        · rw [fb_put_in g.1 g.2]
          exact r8 _ (by have := Nat.mod_lt L (show 0 < 6 by decide); omega)
        · rw [fb_put_out (by omega)]
          exact r9 j hj
      · refine pend_step hn (fun u hu hne => pend_ne (n9 u hne) (n13 u hne)) ?_
        have e0 : pend σ' n = 0 := by
          unfold pend
          rw [y9, y13, if_neg (by decide)]
          rfl
        omega
      · by_cases hun : u = n
        · subst hun
          refine ⟨by rw [y9, zn.1], fun _ => ⟨L, 0, khB (σ 0) (σ 2) (σ 8 (L % 6)), kvB (σ 0) (σ 1) (σ 8 (L % 6)), Nat.le_refl _, by decide, y10, y13, ?_, by rw [y12, zn.2.2.1], ?_, fun k hk2 => ⟨fun j hj => absurd hj (by omega), fun _ => ?_⟩, fun k hk2 => ?_, fun k hk2 => ?_, fun k hk2 => ?_, fun j hj => absurd hj (by omega), fun i j hi => absurd hi (by omega)⟩⟩
          · rw [y11, x9 0 (by decide), x9 3 (by decide)]; exact tv
          · rw [zn.2.1]
            exact fb_ct_zero.mpr (fun k _ => b_0 k)
          · rw [y11, x9 0 (by decide), x9 1 (by decide), x9 2 (by decide)]
            exact ⟨rfl, fun _ => rfl⟩
          · obtain ⟨k1, k2, -⟩ := hk k hk2
            rw [m5, m6, fb_put_in (by omega) (by omega), fb_put_in (by omega) (by omega), show 32 * u + k - 32 * u = k by omega]
            exact ⟨k1, k2⟩
          · obtain ⟨-, -, k3, -⟩ := hk k hk2
            rw [zn.2.2.2, b_0, x9 0 (by decide), x9 3 (by decide), x9 8 (by decide)]
            exact (decide_eq_false (fun z => (fa_of_lt z).2.1 k3)).symm
          · rw [zn.2.1, b_0]
            exact ⟨fun z => absurd z (by decide), fun ⟨j, hj, _⟩ => absurd hj (by omega)⟩
        · obtain ⟨g1, g2⟩ := r11 u hu
          obtain ⟨z1, z2, z3, z5⟩ := zu u hun
          refine ⟨by rw [n9 u hun, z1]; exact g1, fun z => ?_⟩
          rw [n9 u hun] at z
          refine RT.other (by omega) x9 (x10 u hun) (fun j _ => ⟨by rw [x14 14 (by decide)], by rw [x14 15 (by decide)], by rw [x14 16 (by decide)]⟩) ⟨z2, z3, z5⟩ (fun k hk2 => ?_) (g2 z)
          rw [m5, m6, fb_put_out (by omega), fb_put_out (by omega)]
          exact ⟨rfl, rfl⟩
    · have ho' : ¬ μ 4 n = 0 := by rw [← e4]; exact ho
      exact SIM.same h0 (x_begin_op σ n hn ho) (m_begin_op μ n hn ho')
theorem op_abort (h : RR σ μ c) (hc : c ≤ 64) (t : Int32) : SIM σ μ c yX0_abort cX0_abort 3 (some .int) 1 yX1_abort cX1_abort 2 (some .int) 2 [.int t] := by
  rcases ixN (x := t) (c := 3) (by decide) with hb | ⟨n, hn, e⟩
  · exact SIM.same h (x_abort_bad σ t hb) (m_abort_bad μ t hb)
  · subst e
    have h0 := h
    obtain ⟨N, L, h1⟩ := h
    have h2 := h1
    obtain ⟨r1, r2, r3, r4, r5, r6, r7, r8, r9, r10, r11⟩ := h1
    obtain ⟨e4, hRT⟩ := r11 n hn
    by_cases ho : σ 9 n = 0
    · exact SIM.same h0 (x_abort_cl σ n hn ho) (m_abort_cl μ n hn (by rw [← e4]; exact ho))
    · obtain ⟨b, v, f, g, q1, q2, q3, q4, q5, q6, q7, -⟩ := hRT ho
      refine ⟨nI v, _, _, x_abort σ n v hn ho q4, KMi.mono (m_abort μ n hn (by rw [← e4]; exact ho)) (fun r μ' z => ⟨by rw [z.1, q7], z.2⟩), ?_⟩
      rintro σ' μ' e e'
      have n9 : ∀ u, u ≠ n → σ' 9 u = σ 9 u := fun u hu => by rw [e]; show upd (σ 9) n (nI 0) u = _; rw [pk_un hu]
      have y9 : σ' 9 n = 0 := by rw [e]; show upd (σ 9) n (nI 0) n = _; rw [pk_us]; rfl
      have xa : ∀ a, a ≠ 9 → a ≠ 11 → σ' a = σ a := fun a ha hb => by rw [e, su_ne _ _ _ hb, su_ne _ _ _ ha]
      have n11 : ∀ u, u ≠ n → σ' 11 u = σ 11 u := fun u hu => by rw [e]; show upd (σ 11) n (-1) u = _; rw [pk_un hu]
      have za : ∀ a, a ≠ 4 → μ' a = μ a := fun a ha => by rw [e', su_ne _ _ _ ha]
      refine RR1.step h2 (fun a ha => xa a (by omega) (by omega)) (fun a ha => za a (by omega)) (fun j hj => by rw [za 5 (by decide)]; exact r9 j hj) ?_ (fun u hu => ?_)
      · refine pend_step hn (fun u hu hne => pend_ne (n9 u hne) (by rw [xa 13 (by decide) (by decide)])) ?_
        have e0 : pend σ' n = 0 := by
          unfold pend
          rw [y9, if_pos rfl]
        omega
      · by_cases hun : u = n
        · subst hun
          refine ⟨?_, fun z => absurd y9 z⟩
          rw [y9, e']
          show _ = upd (μ 4) u (nI 0) u
          rw [pk_us]; rfl
        · obtain ⟨g1, g2⟩ := r11 u hu
          refine ⟨?_, fun z => ?_⟩
          · rw [n9 u hun, g1, e']
            show _ = upd (μ 4) n (nI 0) u
            rw [pk_un hun]
          · rw [n9 u hun] at z
            exact RT.other (by omega) (fun a ha => xa a (by omega) (by omega)) ⟨by rw [xa 10 (by decide) (by decide)], n11 u hun, by rw [xa 12 (by decide) (by decide)], by rw [xa 13 (by decide) (by decide)]⟩ (fun j _ => ⟨by rw [xa 14 (by decide) (by decide)], by rw [xa 15 (by decide) (by decide)], by rw [xa 16 (by decide) (by decide)]⟩) ⟨by rw [za 7 (by decide)], by rw [za 8 (by decide)], by rw [za 9 (by decide)]⟩ (fun k hk2 => ⟨by rw [za 5 (by decide)], by rw [za 6 (by decide)]⟩) (g2 z)
end OP
end
section
set_option maxRecDepth 100000
section OP
variable {σ μ : ST} {c N L n k v b : Nat} {f : Nat → Bool} {g : Nat → Int32} {x : Int32} {bb : Bool}
/-- a write over an earlier one of the same key -/
theorem put_found (h2 : RR1 σ μ c N L) (hc : c ≤ 64) (hn : n < 4) (hk : k < 32) (ho : ¬ σ 9 n = 0) (hx0 : bb = false → x = 0) (hRT : RT1 σ μ N L n b v f g) {j : Nat} (hj : j < v) (hj2 : σ 14 (6 * n + j) = nI k) :
    RR (su (su σ 15 (6 * n + j) x) 16 (6 * n + j) (bI bb)) (su (su (su μ 7 n (μ 7 n ||| (nI 1 <<< (nI k &&& 31)))) 5 (32 * n + k) (bI bb)) 6 (32 * n + k) x) (c + 1) := by
  obtain ⟨q1, q2, q3, q4, q5, q6, q7, q8, q9, q10, q11, q12, q13⟩ := hRT
  have h3 := h2
  obtain ⟨r1, r2, r3, r4, r5, r6, r7, r8, r9, r10, r11⟩ := h3
  rw [ct_or_in hk ((q11 k hk).mpr ⟨j, hj, hj2⟩)]
  obtain ⟨σ', e⟩ : ∃ z, z = su (su σ 15 (6 * n + j) x) 16 (6 * n + j) (bI bb) := ⟨_, rfl⟩
  obtain ⟨μ', e'⟩ : ∃ z, z = su (su (su μ 7 n (μ 7 n)) 5 (32 * n + k) (bI bb)) 6 (32 * n + k) x := ⟨_, rfl⟩
  rw [← e, ← e']
  have xa : ∀ a, a ≠ 15 → a ≠ 16 → σ' a = σ a := fun a h1 h2 => by rw [e, su_ne _ _ _ h2, su_ne _ _ _ h1]
  have x15 : σ' 15 = upd (σ 15) (6 * n + j) x := by rw [e]; rfl
  have x16 : σ' 16 = upd (σ 16) (6 * n + j) (bI bb) := by rw [e]; rfl
  have za : ∀ a, a ≠ 5 → a ≠ 6 → μ' a = μ a := fun a h1 h2 => by rw [e', su_ne _ _ _ h2, su_ne _ _ _ h1, su_same]
  have z5 : μ' 5 = upd (μ 5) (32 * n + k) (bI bb) := by rw [e']; rfl
  have z6 : μ' 6 = upd (μ 6) (32 * n + k) x := by rw [e']; rfl
  refine RR1.step h2 (fun a ha => xa a (by omega) (by omega)) (fun a ha => za a (by omega) (by omega)) (fun i hi => ?_) ?_ (fun u hu => ?_)
  · rw [z5]
    by_cases e1 : i = 32 * n + k
    · rw [e1, pk_us]; exact ⟨bb, rfl⟩
    · rw [pk_un e1]; exact r9 i hi
  · refine pend_step hn (fun u hu hne => pend_ne (by rw [xa 9 (by decide) (by decide)]) (by rw [xa 13 (by decide) (by decide)])) ?_
    rw [pend_ne (σ := σ) (σ' := σ') (by rw [xa 9 (by decide) (by decide)]) (by rw [xa 13 (by decide) (by decide)])]
    omega
  · obtain ⟨g1, g2⟩ := r11 u hu
    refine ⟨by rw [xa 9 (by decide) (by decide), za 4 (by decide) (by decide)]; exact g1, fun z => ?_⟩
    rw [xa 9 (by decide) (by decide)] at z
    by_cases hun : u = n
    · subst hun
      refine ⟨b, v, fun i => if i = k then bb else f i, fun i => if i = k then x else g i, q1, q2, by rw [xa 10 (by decide) (by decide)]; exact q3, by rw [xa 13 (by decide) (by decide)]; exact q4, by rw [xa 0 (by decide) (by decide), xa 3 (by decide) (by decide), xa 11 (by decide) (by decide)]; exact q5, by rw [xa 12 (by decide) (by decide), za 8 (by decide) (by decide)]; exact q6, by rw [za 7 (by decide) (by decide)]; exact q7, fun i hi => ⟨fun j' hj' he => ?_, fun hno => ?_⟩, fun i hi => ?_, ?_, ?_, ?_, ?_⟩
      · rw [xa 14 (by decide) (by decide)] at he
        rw [x16, x15]
        by_cases ej : j' = j
        · subst ej
          have ei := nI_inj (by omega) (by omega) (he.symm.trans hj2)
          subst ei
          show upd _ _ _ _ = bI (if i = i then bb else f i) ∧ upd _ _ _ _ = if (if i = i then bb else f i) = true then (if i = i then x else g i) else 0
          rw [pk_us, pk_us, if_pos rfl, if_pos rfl]
          refine ⟨rfl, ?_⟩
          cases bb
          · exact hx0 rfl
          · rfl
        · have ei : i ≠ k := fun z => ej (q13 j' j hj' hj (by rw [he, hj2, z]))
          show upd _ _ _ _ = bI (if i = k then bb else f i) ∧ upd _ _ _ _ = if (if i = k then bb else f i) = true then (if i = k then x else g i) else 0
          rw [pk_un (by omega), pk_un (by omega), if_neg ei, if_neg ei]
          exact (q8 i hi).1 j' hj' he
      · rw [xa 14 (by decide) (by decide)] at hno
        have ei : i ≠ k := fun z => hno j hj (by rw [z]; exact hj2)
        rw [xa 0 (by decide) (by decide), xa 1 (by decide) (by decide), xa 2 (by decide) (by decide), xa 11 (by decide) (by decide)]
        show _ = (if i = k then bb else f i) ∧ ((if i = k then bb else f i) = true → _ = if i = k then x else g i)
        rw [if_neg ei, if_neg ei]
        exact (q8 i hi).2 hno
      · show _ = bI (if i = k then bb else f i) ∧ ((if i = k then bb else f i) = true → _ = if i = k then x else g i)
        rw [z5, z6]
        by_cases ei : i = k
        · subst ei
          rw [if_pos rfl, if_pos rfl, pk_us, pk_us]
          exact ⟨rfl, fun _ => rfl⟩
        · rw [if_neg ei, if_neg ei, pk_un (by omega), pk_un (by omega)]
          exact q9 i hi
      · rw [xa 0 (by decide) (by decide), xa 3 (by decide) (by decide), xa 8 (by decide) (by decide), za 9 (by decide) (by decide)]
        exact q10
      · rw [xa 14 (by decide) (by decide), za 7 (by decide) (by decide)]
        exact q11
      · rw [xa 14 (by decide) (by decide)]; exact q12
      · rw [xa 14 (by decide) (by decide)]; exact q13
    · refine RT.other (by omega) (fun a ha => xa a (by omega) (by omega)) ⟨by rw [xa 10 (by decide) (by decide)], by rw [xa 11 (by decide) (by decide)], by rw [xa 12 (by decide) (by decide)], by rw [xa 13 (by decide) (by decide)]⟩ (fun j' hj' => ⟨by rw [xa 14 (by decide) (by decide)], ?_, ?_⟩) ⟨by rw [za 7 (by decide) (by decide)], by rw [za 8 (by decide) (by decide)], by rw [za 9 (by decide) (by decide)]⟩ (fun i hi => ⟨?_, ?_⟩) (g2 z)
      · rw [x15, pk_un (by omega)]
      · rw [x16, pk_un (by omega)]
      · rw [z5, pk_un (by omega)]
      · rw [z6, pk_un (by omega)]
/-- a write of a new key -/
theorem put_new (h2 : RR1 σ μ c N L) (hc : c ≤ 64) (hn : n < 4) (hk : k < 32) (ho : ¬ σ 9 n = 0) (hx0 : bb = false → x = 0) (hRT : RT1 σ μ N L n b v f g) (hv6 : v < 6) (hno : ∀ j, j < v → ¬ σ 14 (6 * n + j) = nI k) (hb0 : bt (μ 7 n) k = false) :
    RR (su (su (su (su σ 13 n (nI (v + 1))) 14 (6 * n + v) (nI k)) 15 (6 * n + v) x) 16 (6 * n + v) (bI bb)) (su (su (su μ 7 n (μ 7 n ||| (nI 1 <<< (nI k &&& 31)))) 5 (32 * n + k) (bI bb)) 6 (32 * n + k) x) (c + 1) := by
  obtain ⟨q1, q2, q3, q4, q5, q6, q7, q8, q9, q10, q11, q12, q13⟩ := hRT
  have h3 := h2
  obtain ⟨r1, r2, r3, r4, r5, r6, r7, r8, r9, r10, r11⟩ := h3
  obtain ⟨σ', e⟩ : ∃ z, z = su (su (su (su σ 13 n (nI (v + 1))) 14 (6 * n + v) (nI k)) 15 (6 * n + v) x) 16 (6 * n + v) (bI bb) := ⟨_, rfl⟩
  obtain ⟨μ', e'⟩ : ∃ z, z = su (su (su μ 7 n (μ 7 n ||| (nI 1 <<< (nI k &&& 31)))) 5 (32 * n + k) (bI bb)) 6 (32 * n + k) x := ⟨_, rfl⟩
  rw [← e, ← e']
  have xa : ∀ a, a ≠ 13 → a ≠ 14 → a ≠ 15 → a ≠ 16 → σ' a = σ a := fun a h0 h1 h2 h3 => by rw [e, su_ne _ _ _ h3, su_ne _ _ _ h2, su_ne _ _ _ h1, su_ne _ _ _ h0]
  have x13 : σ' 13 = upd (σ 13) n (nI (v + 1)) := by rw [e]; rfl
  have x14 : σ' 14 = upd (σ 14) (6 * n + v) (nI k) := by rw [e]; rfl
  have x15 : σ' 15 = upd (σ 15) (6 * n + v) x := by rw [e]; rfl
  have x16 : σ' 16 = upd (σ 16) (6 * n + v) (bI bb) := by rw [e]; rfl
  have za : ∀ a, a ≠ 5 → a ≠ 6 → a ≠ 7 → μ' a = μ a := fun a h1 h2 h3 => by rw [e', su_ne _ _ _ h2, su_ne _ _ _ h1, su_ne _ _ _ h3]
  have z5 : μ' 5 = upd (μ 5) (32 * n + k) (bI bb) := by rw [e']; rfl
  have z6 : μ' 6 = upd (μ 6) (32 * n + k) x := by rw [e']; rfl
  have z7 : μ' 7 = upd (μ 7) n (μ 7 n ||| (nI 1 <<< (nI k &&& 31))) := by rw [e']; rfl
  have x9 : σ' 9 = σ 9 := xa 9 (by decide) (by decide) (by decide) (by decide)
  refine RR1.step h2 (fun a ha => xa a (by omega) (by omega) (by omega) (by omega)) (fun a ha => za a (by omega) (by omega) (by omega)) (fun i hi => ?_) ?_ (fun u hu => ?_)
  · rw [z5]
    by_cases e1 : i = 32 * n + k
    · rw [e1, pk_us]; exact ⟨bb, rfl⟩
    · rw [pk_un e1]; exact r9 i hi
  · refine pend_step hn (fun u hu hne => pend_ne (by rw [x9]) (by rw [x13, pk_un hne])) ?_
    unfold pend
    rw [x9, if_neg ho, if_neg ho, x13, pk_us, q4, nI_clamp (by omega), nI_clamp (by omega)]
    omega
  · obtain ⟨g1, g2⟩ := r11 u hu
    refine ⟨by rw [x9, za 4 (by decide) (by decide) (by decide)]; exact g1, fun z => ?_⟩
    rw [x9] at z
    by_cases hun : u = n
    · subst hun
      have w14 : ∀ j, j < v → σ' 14 (6 * u + j) = σ 14 (6 * u + j) := fun j hj => by rw [x14, pk_un (by omega)]
      have v14 : σ' 14 (6 * u + v) = nI k := by rw [x14, pk_us]
      refine ⟨b, v + 1, fun i => if i = k then bb else f i, fun i => if i = k then x else g i, q1, by omega, by rw [xa 10 (by decide) (by decide) (by decide) (by decide)]; exact q3, by rw [x13, pk_us], by rw [xa 0 (by decide) (by decide) (by decide) (by decide), xa 3 (by decide) (by decide) (by decide) (by decide), xa 11 (by decide) (by decide) (by decide) (by decide)]; exact q5, by rw [xa 12 (by decide) (by decide) (by decide) (by decide), za 8 (by decide) (by decide) (by decide)]; exact q6, by rw [z7, pk_us, ct_or_new hk hb0, q7], fun i hi => ⟨fun j' hj' he => ?_, fun hno' => ?_⟩, fun i hi => ?_, ?_, fun i hi => ?_, fun j' hj' => ?_, fun i j hi hj he => ?_⟩
      · rw [x16, x15]
        by_cases ej : j' = v
        · subst ej
          have ei := nI_inj (by omega) (by omega) (he.symm.trans v14)
          subst ei
          show upd _ _ _ _ = bI (if i = i then bb else f i) ∧ upd _ _ _ _ = if (if i = i then bb else f i) = true then (if i = i then x else g i) else 0
          rw [pk_us, pk_us, if_pos rfl, if_pos rfl]
          refine ⟨rfl, ?_⟩
          cases bb
          · exact hx0 rfl
          · rfl
        · have hjv : j' < v := by omega
          rw [w14 j' hjv] at he
          have ei : i ≠ k := fun z => hno j' hjv (by rw [he, z])
          show upd _ _ _ _ = bI (if i = k then bb else f i) ∧ upd _ _ _ _ = if (if i = k then bb else f i) = true then (if i = k then x else g i) else 0
          rw [pk_un (by omega), pk_un (by omega), if_neg ei, if_neg ei]
          exact (q8 i hi).1 j' hjv he
      · have ei : i ≠ k := fun z => hno' v (by omega) (by rw [z]; exact v14)
        rw [xa 0 (by decide) (by decide) (by decide) (by decide), xa 1 (by decide) (by decide) (by decide) (by decide), xa 2 (by decide) (by decide) (by decide) (by decide), xa 11 (by decide) (by decide) (by decide) (by decide)]
        show _ = (if i = k then bb else f i) ∧ ((if i = k then bb else f i) = true → _ = if i = k then x else g i)
        rw [if_neg ei, if_neg ei]
        exact (q8 i hi).2 (fun j' hj' => by rw [← w14 j' hj']; exact hno' j' (by omega))
      · show _ = bI (if i = k then bb else f i) ∧ ((if i = k then bb else f i) = true → _ = if i = k then x else g i)
        rw [z5, z6]
        by_cases ei : i = k
        · subst ei
          rw [if_pos rfl, if_pos rfl, pk_us, pk_us]
          exact ⟨rfl, fun _ => rfl⟩
        · rw [if_neg ei, if_neg ei, pk_un (by omega), pk_un (by omega)]
          exact q9 i hi
      · rw [xa 0 (by decide) (by decide) (by decide) (by decide), xa 3 (by decide) (by decide) (by decide) (by decide), xa 8 (by decide) (by decide) (by decide) (by decide), za 9 (by decide) (by decide) (by decide)]
        exact q10
      · rw [z7, pk_us, b_or, bt_one hk hi]
        by_cases ei : i = k
        · subst ei
          rw [decide_eq_true rfl, Bool.or_true]
          exact ⟨fun _ => ⟨v, by omega, v14⟩, fun _ => rfl⟩
        · rw [decide_eq_false ei, Bool.or_false, q11 i hi]
          constructor
          · rintro ⟨j, hj, e1⟩
            exact ⟨j, by omega, by rw [w14 j hj]; exact e1⟩
          · rintro ⟨j, hj, e1⟩
            have hjv : j ≠ v := fun z => ei (by rw [z, v14] at e1; exact (nI_inj (by omega) (by omega) e1).symm)
            exact ⟨j, by omega, by rw [← w14 j (by omega)]; exact e1⟩
      · by_cases ej : j' = v
        · subst ej; exact ⟨k, hk, v14⟩
        · rw [w14 j' (by omega)]; exact q12 j' (by omega)
      · by_cases ei : i = v
        · by_cases ej : j = v
          · omega
          · subst ei
            rw [v14, w14 j (by omega)] at he
            exact absurd he.symm (hno j (by omega))
        · by_cases ej : j = v
          · subst ej
            rw [v14, w14 i (by omega)] at he
            exact absurd he (hno i (by omega))
          · rw [w14 i (by omega), w14 j (by omega)] at he
            exact q13 i j (by omega) (by omega) he
    · refine RT.other (by omega) (fun a ha => xa a (by omega) (by omega) (by omega) (by omega)) ⟨by rw [xa 10 (by decide) (by decide) (by decide) (by decide)], by rw [xa 11 (by decide) (by decide) (by decide) (by decide)], by rw [xa 12 (by decide) (by decide) (by decide) (by decide)], by rw [x13, pk_un hun]⟩ (fun j' hj' => ⟨?_, ?_, ?_⟩) ⟨by rw [z7, pk_un hun], by rw [za 8 (by decide) (by decide) (by decide)], by rw [za 9 (by decide) (by decide) (by decide)]⟩ (fun i hi => ⟨?_, ?_⟩) (g2 z)
      · rw [x14, pk_un (by omega)]
      · rw [x15, pk_un (by omega)]
      · rw [x16, pk_un (by omega)]
      · rw [z5, pk_un (by omega)]
      · rw [z6, pk_un (by omega)]
end OP
section OQ
variable {σ μ : ST} {c N L n k : Nat} {x : Int32} {bb : Bool} {yx : MethodName} {bx : ByteArray} {Lx kx : Nat} {ym : MethodName} {bm : ByteArray} {Lm km : Nat} {as : List Value}
theorem sim_put (h2 : RR1 σ μ c N L) (hc : c ≤ 64) (hn : n < 4) (hk : k < 32) (ho : ¬ σ 9 n = 0) (hx0 : bb = false → x = 0)
    (hX : ∀ v, σ 13 n = nI v → v ≤ 6 → KMi WX tX yx bx Lx (some .int) kx as σ (fun r σ' => (∃ j, j < v ∧ σ 14 (6 * n + j) = nI k ∧ r = nI v ∧ σ' = su (su σ 15 (6 * n + j) x) 16 (6 * n + j) (bI bb)) ∨ ((∀ j, j < v → ¬ σ 14 (6 * n + j) = nI k) ∧ ((v = 6 ∧ r = -4 ∧ σ' = σ) ∨ (v < 6 ∧ r = nI (v + 1) ∧ σ' = su (su (su (su σ 13 n (nI (v + 1))) 14 (6 * n + v) (nI k)) 15 (6 * n + v) x) 16 (6 * n + v) (bI bb))))))
    (hMf : bt (μ 7 n) k = false → fb_ct (bt (μ 7 n)) 32 = 6 → KMi WM tM ym bm Lm (some .int) km as μ (fun r μ' => r = -4 ∧ μ' = μ))
    (hMo : (bt (μ 7 n) k = true ∨ ¬ fb_ct (bt (μ 7 n)) 32 = 6) → KMi WM tM ym bm Lm (some .int) km as μ (fun r μ' => r = nI (fb_ct (bt (μ 7 n ||| (nI 1 <<< (nI k &&& 31)))) 32) ∧ μ' = su (su (su μ 7 n (μ 7 n ||| (nI 1 <<< (nI k &&& 31)))) 5 (32 * n + k) (bI bb)) 6 (32 * n + k) x)) :
    SIM σ μ c yx bx Lx (some .int) kx ym bm Lm (some .int) km as := by
  have h3 := h2
  obtain ⟨r1, r2, r3, r4, r5, r6, r7, r8, r9, r10, r11⟩ := h3
  obtain ⟨b, v, f, g, hRT⟩ := (r11 n hn).2 ho
  have hRT1 := hRT
  obtain ⟨q1, q2, q3, q4, q5, q6, q7, q8, q9, q10, q11, q12, q13⟩ := hRT1
  by_cases hex : ∃ j, j < v ∧ σ 14 (6 * n + j) = nI k
  · have hb1 := (q11 k hk).mpr hex
    refine ⟨nI v, fun σ' => ∃ j, j < v ∧ σ 14 (6 * n + j) = nI k ∧ σ' = su (su σ 15 (6 * n + j) x) 16 (6 * n + j) (bI bb), _, KMi.mono (hX v q4 q2) ?_, KMi.mono (hMo (Or.inl hb1)) (fun r μ' z => ⟨by rw [z.1, ct_or_in hk hb1, q7], z.2⟩), ?_⟩
    · rintro r σ' (⟨j, z1, z2, z3, z4⟩ | ⟨z1, -⟩)
      · exact ⟨z3, j, z1, z2, z4⟩
      · obtain ⟨j, w1, w2⟩ := hex
        exact absurd w2 (z1 j w1)
    · rintro σ' μ' ⟨j, z1, z2, z3⟩ z4
      rw [z3, z4]
      exact put_found h2 hc hn hk ho hx0 hRT z1 z2
  · have hno : ∀ j, j < v → ¬ σ 14 (6 * n + j) = nI k := fun j hj z => hex ⟨j, hj, z⟩
    have hb0 : bt (μ 7 n) k = false := by
      rcases Bool.eq_false_or_eq_true (bt (μ 7 n) k) with z | z
      · exact absurd ((q11 k hk).mp z) hex
      · exact z
    by_cases hv : v = 6
    · refine ⟨-4, fun σ' => σ' = σ, _, KMi.mono (hX v q4 q2) ?_, hMf hb0 (by rw [q7, hv]), ?_⟩
      · rintro r σ' (⟨j, z1, z2, -⟩ | ⟨-, ⟨-, z2, z3⟩ | ⟨z1, -⟩⟩)
        · exact absurd z2 (hno j z1)
        · exact ⟨z2, z3⟩
        · omega
      · rintro σ' μ' e1 e2
        rw [e1, e2]
        exact RR.next ⟨N, L, h2⟩
    · refine ⟨nI (v + 1), fun σ' => σ' = su (su (su (su σ 13 n (nI (v + 1))) 14 (6 * n + v) (nI k)) 15 (6 * n + v) x) 16 (6 * n + v) (bI bb), _, KMi.mono (hX v q4 q2) ?_, KMi.mono (hMo (Or.inr (by rw [q7]; exact hv))) (fun r μ' z => ⟨by rw [z.1, ct_or_new hk hb0, q7], z.2⟩), ?_⟩
      · rintro r σ' (⟨j, z1, z2, -⟩ | ⟨-, ⟨z1, -⟩ | ⟨-, z2, z3⟩⟩)
        · exact absurd z2 (hno j z1)
        · exact absurd z1 hv
        · exact ⟨z2, z3⟩
      · rintro σ' μ' e1 e2
        rw [e1, e2]
        exact put_new h2 hc hn hk ho hx0 hRT (by omega) hno hb0
end OQ
section OW
variable {σ μ : ST} {c : Nat}
theorem bad5 {t k : Int32} (h : (t < 0 ∨ nI 3 < t) ∨ (k < 0 ∨ nI 31 < k)) : t < 0 ∨ nI 3 < t ∨ k < 0 ∨ nI 31 < k ∨ k < k := by
  rcases h with (h | h) | (h | h)
  · exact Or.inl h
  · exact Or.inr (Or.inl h)
  · exact Or.inr (Or.inr (Or.inl h))
  · exact Or.inr (Or.inr (Or.inr (Or.inl h)))
theorem op_write (h : RR σ μ c) (hc : c ≤ 64) (t k x : Int32) : SIM σ μ c yX0_write cX0_write 4 (some .int) 2 yX1_write cX1_write 4 (some .int) 3 [.int t, .int k, .int x] := by
  rcases ixN (x := t) (c := 3) (by decide) with hb | ⟨n, hn, e⟩
  · exact SIM.same h (x_write_bad σ t k x (bad5 (Or.inl hb))) (m_write_badt μ t k x hb)
  · subst e
    rcases ixN (x := k) (c := 31) (by decide) with hb | ⟨q, hq, e⟩
    · exact SIM.same h (x_write_bad σ _ k x (bad5 (Or.inr hb))) (m_write_badk μ n k x hn hb)
    · subst e
      have h0 := h
      obtain ⟨N, L, h1⟩ := h
      have e4 := (h1.2.2.2.2.2.2.2.2.2.2 n hn).1
      by_cases ho : σ 9 n = 0
      · exact SIM.same h0 (x_write_cl σ n q x hn hq ho) (m_write_cl μ n q x hn hq (by rw [← e4]; exact ho))
      · have ho' : ¬ μ 4 n = 0 := by rw [← e4]; exact ho
        exact sim_put (bb := true) (x := x) h1 hc hn hq ho (fun z => absurd z (by decide)) (fun v z1 z2 => x_write σ n q v x hn hq z1 z2 ho) (fun z1 z2 => m_write_full μ n q x hn hq ho' z1 z2) (fun z => m_write μ n q x hn hq ho' z)
theorem op_erase (h : RR σ μ c) (hc : c ≤ 64) (t k : Int32) : SIM σ μ c yX0_erase cX0_erase 3 (some .int) 2 yX1_erase cX1_erase 3 (some .int) 3 [.int t, .int k] := by
  rcases ixN (x := t) (c := 3) (by decide) with hb | ⟨n, hn, e⟩
  · exact SIM.same h (x_erase_bad σ t k (bad5 (Or.inl hb))) (m_erase_badt μ t k hb)
  · subst e
    rcases ixN (x := k) (c := 31) (by decide) with hb | ⟨q, hq, e⟩
    · exact SIM.same h (x_erase_bad σ _ k (bad5 (Or.inr hb))) (m_erase_badk μ n k hn hb)
    · subst e
      have h0 := h
      obtain ⟨N, L, h1⟩ := h
      have e4 := (h1.2.2.2.2.2.2.2.2.2.2 n hn).1
      by_cases ho : σ 9 n = 0
      · exact SIM.same h0 (x_erase_cl σ n q hn hq ho) (m_erase_cl μ n q hn hq (by rw [← e4]; exact ho))
      · have ho' : ¬ μ 4 n = 0 := by rw [← e4]; exact ho
        exact sim_put (bb := false) (x := nI 0) h1 hc hn hq ho (fun _ => rfl) (fun v z1 z2 => x_erase σ n q v hn hq z1 z2 ho) (fun z1 z2 => m_erase_full μ n q hn hq ho' z1 z2) (fun z => m_erase μ n q hn hq ho' z)
end OW
end
section
set_option maxRecDepth 100000
section OR
variable {σ μ : ST} {c N L n : Nat}
theorem set_read (h2 : RR1 σ μ c N L) (hc : c ≤ 64) (hn : n < 4) (y : Int32) : RR (su σ 12 n y) (su μ 8 n y) (c + 1) := by
  have h3 := h2
  obtain ⟨r1, r2, r3, r4, r5, r6, r7, r8, r9, r10, r11⟩ := h3
  obtain ⟨σ', e⟩ : ∃ z, z = su σ 12 n y := ⟨_, rfl⟩
  obtain ⟨μ', e'⟩ : ∃ z, z = su μ 8 n y := ⟨_, rfl⟩
  rw [← e, ← e']
  have xa : ∀ a, a ≠ 12 → σ' a = σ a := fun a h => by rw [e, su_ne _ _ _ h]
  have za : ∀ a, a ≠ 8 → μ' a = μ a := fun a h => by rw [e', su_ne _ _ _ h]
  have x12 : σ' 12 = upd (σ 12) n y := by rw [e]; rfl
  have z8 : μ' 8 = upd (μ 8) n y := by rw [e']; rfl
  refine RR1.step h2 (fun a ha => xa a (by omega)) (fun a ha => za a (by omega)) (fun j hj => by rw [za 5 (by decide)]; exact r9 j hj) ?_ (fun u hu => ?_)
  · refine pend_step hn (fun u hu hne => pend_ne (by rw [xa 9 (by decide)]) (by rw [xa 13 (by decide)])) ?_
    rw [pend_ne (σ := σ) (σ' := σ') (by rw [xa 9 (by decide)]) (by rw [xa 13 (by decide)])]
    omega
  · obtain ⟨g1, g2⟩ := r11 u hu
    refine ⟨by rw [xa 9 (by decide), za 4 (by decide)]; exact g1, fun z => ?_⟩
    rw [xa 9 (by decide)] at z
    by_cases hun : u = n
    · subst hun
      obtain ⟨b, v, f, g, q1, q2, q3, q4, q5, q6, q7, q8, q9, q10, q11, q12, q13⟩ := g2 z
      refine ⟨b, v, f, g, q1, q2, by rw [xa 10 (by decide)]; exact q3, by rw [xa 13 (by decide)]; exact q4, by rw [xa 0 (by decide), xa 3 (by decide), xa 11 (by decide)]; exact q5, by rw [x12, z8, pk_us, pk_us], by rw [za 7 (by decide)]; exact q7, ?_, by rw [za 5 (by decide), za 6 (by decide)]; exact q9, by rw [za 9 (by decide), xa 0 (by decide), xa 3 (by decide), xa 8 (by decide)]; exact q10, by rw [za 7 (by decide), xa 14 (by decide)]; exact q11, by rw [xa 14 (by decide)]; exact q12, by rw [xa 14 (by decide)]; exact q13⟩
      unfold VW at q8 ⊢
      rw [xa 0 (by decide), xa 1 (by decide), xa 2 (by decide), xa 11 (by decide), xa 14 (by decide), xa 15 (by decide), xa 16 (by decide)]
      exact q8
    · exact RT.other (by omega) (fun a ha => xa a (by omega)) ⟨by rw [xa 10 (by decide)], by rw [xa 11 (by decide)], by rw [x12, pk_un hun], by rw [xa 13 (by decide)]⟩ (fun j' hj' => ⟨by rw [xa 14 (by decide)], by rw [xa 15 (by decide)], by rw [xa 16 (by decide)]⟩) ⟨by rw [za 7 (by decide)], by rw [z8, pk_un hun], by rw [za 9 (by decide)]⟩ (fun i hi => ⟨by rw [za 5 (by decide)], by rw [za 6 (by decide)]⟩) (g2 z)
/-- what lies on the stack doesn't matter -/
theorem RR.cong {σ' : ST} (h : RR σ μ c) (hc : c ≤ 64) (hx : ∀ a, a < 17 → σ' a = σ a) : RR σ' μ (c + 1) := by
  obtain ⟨N, L, h2⟩ := h
  have h3 := h2
  obtain ⟨r1, r2, r3, r4, r5, r6, r7, r8, r9, r10, r11⟩ := h3
  refine RR1.step h2 (fun a ha => hx a (by omega)) (fun a ha => rfl) r9 ?_ (fun u hu => ?_)
  · refine pend_step (t := 0) (by decide) (fun u hu hne => pend_ne (by rw [hx 9 (by decide)]) (by rw [hx 13 (by decide)])) ?_
    rw [pend_ne (σ := σ) (σ' := σ') (by rw [hx 9 (by decide)]) (by rw [hx 13 (by decide)])]
    omega
  · obtain ⟨g1, g2⟩ := r11 u hu
    refine ⟨by rw [hx 9 (by decide)]; exact g1, fun z => ?_⟩
    rw [hx 9 (by decide)] at z
    exact RT.other (by omega) (fun a ha => hx a (by omega)) ⟨by rw [hx 10 (by decide)], by rw [hx 11 (by decide)], by rw [hx 12 (by decide)], by rw [hx 13 (by decide)]⟩ (fun j' hj' => ⟨by rw [hx 14 (by decide)], by rw [hx 15 (by decide)], by rw [hx 16 (by decide)]⟩) ⟨rfl, rfl, rfl⟩ (fun i hi => ⟨rfl, rfl⟩) (g2 z)
end OR
section OS
variable {σ μ : ST} {c : Nat}
theorem op_read (h : RR σ μ c) (hc : c ≤ 64) (t k : Int32) : SIM σ μ c yX0_read cX0_read 4 (some .int) 2 yX1_read cX1_read 3 (some .int) 1 [.int t, .int k] := by
  rcases ixN (x := t) (c := 3) (by decide) with hb | ⟨n, hn, e⟩
  · exact SIM.same h (x_read_bad σ t k (bad5 (Or.inl hb))) (m_read_badt μ t k hb)
  · subst e
    rcases ixN (x := k) (c := 31) (by decide) with hb | ⟨q, hq, e⟩
    · exact SIM.same h (x_read_bad σ _ k (bad5 (Or.inr hb))) (m_read_badk μ n k hn hb)
    · subst e
      have h0 := h
      obtain ⟨N, L, h1⟩ := h
      have h2 := h1
      obtain ⟨r1, r2, r3, r4, r5, r6, r7, r8, r9, r10, r11⟩ := h1
      obtain ⟨e4, hRT⟩ := r11 n hn
      by_cases ho : σ 9 n = 0
      · exact SIM.same h0 (x_read_cl σ n q hn hq ho) (m_read_cl μ n q hn hq (by rw [← e4]; exact ho))
      · have ho' : ¬ μ 4 n = 0 := by rw [← e4]; exact ho
        obtain ⟨b, v, f, g, q1, q2, q3, q4, q5, q6, q7, q8, q9, q10, q11, q12, q13⟩ := hRT ho
        refine ⟨bI (f q), _, _, x_read σ n q v N f g hn hq q4 q2 (by omega) q5 q8 ho, m_read μ n q (f q) hn hq ho' (q9 q hq).1, ?_⟩
        rintro σ' μ' e1 e2
        rw [e1, e2, ← q6]
        exact set_read h2 hc hn _
theorem op_peek (h : RR σ μ c) (hc : c ≤ 64) (t k : Int32) : SIM σ μ c yX0_peek cX0_peek 5 (some .int) 2 yX1_peek cX1_peek 3 (some .int) 1 [.int t, .int k] := by
  rcases ixN (x := t) (c := 3) (by decide) with hb | ⟨n, hn, e⟩
  · exact SIM.same h (x_peek_bad σ t k (bad5 (Or.inl hb))) (m_peek_badt μ t k hb)
  · subst e
    rcases ixN (x := k) (c := 31) (by decide) with hb | ⟨q, hq, e⟩
    · exact SIM.same h (x_peek_bad σ _ k (bad5 (Or.inr hb))) (m_peek_badk μ n k hn hb)
    · subst e
      have h0 := h
      obtain ⟨N, L, h1⟩ := h
      obtain ⟨r1, r2, r3, r4, r5, r6, r7, r8, r9, r10, r11⟩ := h1
      obtain ⟨e4, hRT⟩ := r11 n hn
      by_cases ho : σ 9 n = 0
      · exact SIM.same h0 (x_peek_cl σ n q hn hq ho) (m_peek_cl μ n q hn hq (by rw [← e4]; exact ho))
      · have ho' : ¬ μ 4 n = 0 := by rw [← e4]; exact ho
        obtain ⟨b, v, f, g, q1, q2, q3, q4, q5, q6, q7, q8, q9, q10, q11, q12, q13⟩ := hRT ho
        refine SIM.same h0 (x_peek σ n q v N f g hn hq q4 q2 (by omega) q5 q8 ho) (KMi.mono (m_peek μ n q (f q) hn hq ho' (q9 q hq).1) (fun r μ' z => ⟨?_, z.2⟩))
        rw [z.1]
        by_cases hf : f q = true
        · rw [if_pos hf, if_pos hf]; exact (q9 q hq).2 hf
        · rw [if_neg hf, if_neg hf]
theorem op_countRange (h : RR σ μ c) (hc : c ≤ 64) (t a b : Int32) : SIM σ μ c yX0_countRange cX0_countRange 7 (some .int) 2 yX1_countRange cX1_countRange 6 (some .int) 2 [.int t, .int a, .int b] := by
  rcases ixN (x := t) (c := 3) (by decide) with hb | ⟨n, hn, e⟩
  · exact SIM.same h (x_countRange_bad σ t a b (by rcases hb with z | z; exact Or.inl z; exact Or.inr (Or.inl z))) (m_countRange_badt μ t a b hb)
  · subst e
    rcases ixN (x := a) (c := 31) (by decide) with hb | ⟨p, hp, e⟩
    · refine SIM.same h (x_countRange_bad σ _ a b ?_) (m_countRange_bada μ n a b hn hb)
      rcases hb with z | z
      · exact Or.inr (Or.inr (Or.inl z))
      · by_cases w : b < a
        · exact Or.inr (Or.inr (Or.inr (Or.inr w)))
        · exact Or.inr (Or.inr (Or.inr (Or.inl (fa_trans z (fa_of_nlt w)))))
    · subst e
      rcases ixN (x := b) (c := 31) (by decide) with hb | ⟨q, hq, e⟩
      · refine SIM.same h (x_countRange_bad σ _ _ b ?_) (m_countRange_badb μ n p b hn hp hb)
        rcases hb with z | z
        · exact Or.inr (Or.inr (Or.inr (Or.inr (fa_trans z (nI_pos' (by omega))))))
        · exact Or.inr (Or.inr (Or.inr (Or.inl z)))
      · subst e
        have h0 := h
        obtain ⟨N, L, h1⟩ := h
        have h2 := h1
        obtain ⟨r1, r2, r3, r4, r5, r6, r7, r8, r9, r10, r11⟩ := h1
        obtain ⟨e4, hRT⟩ := r11 n hn
        rcases Nat.lt_or_ge q p with hqp | hqp
        · exact SIM.same h0 (x_countRange_bad σ _ _ _ (Or.inr (Or.inr (Or.inr (Or.inr (nI_lt hqp (by omega))))))) (m_countRange_lt μ n p q hn hp hq hqp)
        · by_cases ho : σ 9 n = 0
          · exact SIM.same h0 (x_countRange_cl σ n p q hn hqp hq ho) (m_countRange_cl μ n p q hn hp hq hqp (by rw [← e4]; exact ho))
          · have ho' : ¬ μ 4 n = 0 := by rw [← e4]; exact ho
            obtain ⟨b, v, f, g, q1, q2, q3, q4, q5, q6, q7, q8, q9, q10, q11, q12, q13⟩ := hRT ho
            refine ⟨_, _, _, x_countRange σ n p q v N f g hn hqp hq q4 q2 (by omega) q5 q8 ho, m_countRange μ n p q f hn hp hq hqp ho' (fun k hk => (q9 k hk).1), ?_⟩
            rintro σ' μ' e1 e2
            rw [e1, e2, ← q6]
            exact set_read h2 hc hn _
theorem op_has (h : RR σ μ c) (hc : c ≤ 64) (x k : Int32) : SIM σ μ c yX0_has cX0_has 4 (some .boolean) 1 yX1_has cX1_has 3 (some .boolean) 2 [.int x, .int k] := by
  have h0 := h
  obtain ⟨N, L, r1, r2, r3, r4, r5, r6, r7, r8, r9, r10, r11⟩ := h
  by_cases hk : ∃ a, x = nI a ∧ a ≤ L ∧ L < a + 6
  · obtain ⟨a, e, ha, ha6⟩ := hk
    subst e
    rcases ixN (x := k) (c := 31) (by decide) with hb | ⟨q, hq, e⟩
    · exact SIM.same h0 (x_has_bk σ a k L r4 (by omega) ha ha6 hb) (m_has_bk μ a k L r5 (by omega) ha ha6 hb)
    · subst e
      obtain ⟨tv, hk⟩ := r10 a ha ha6
      exact SIM.same h0 (x_has σ a q N L r4 (by omega) ha ha6 hq (by omega) tv) (m_has μ a q _ L r5 (by omega) ha ha6 hq (hk q hq).1)
  · exact SIM.same h0 (x_has_nk σ x k L r4 (by omega) hk) (m_has_nk μ x k L r5 (by omega) hk)
theorem op_at (h : RR σ μ c) (hc : c ≤ 64) (x k : Int32) : SIM σ μ c yX0_at cX0_at 4 (some .int) 2 yX1_at cX1_at 3 (some .int) 3 [.int x, .int k] := by
  have h0 := h
  obtain ⟨N, L, r1, r2, r3, r4, r5, r6, r7, r8, r9, r10, r11⟩ := h
  by_cases hk : ∃ a, x = nI a ∧ a ≤ L ∧ L < a + 6
  · obtain ⟨a, e, ha, ha6⟩ := hk
    subst e
    rcases ixN (x := k) (c := 31) (by decide) with hb | ⟨q, hq, e⟩
    · exact SIM.same h0 (x_at_bk σ a k L r4 (by omega) ha ha6 hb) (m_at_bk μ a k L r5 (by omega) ha ha6 hb)
    · subst e
      obtain ⟨tv, hk⟩ := r10 a ha ha6
      refine SIM.same h0 (x_at σ a q N L r4 (by omega) ha ha6 hq (by omega) tv) (KMi.mono (m_at μ a q _ L r5 (by omega) ha ha6 hq (hk q hq).1) (fun r μ' z => ⟨?_, z.2⟩))
      rw [z.1]
      by_cases hf : khB (σ 0) (σ 2) (σ 8 (a % 6)) q = true
      · rw [if_pos hf, if_pos hf]; exact (hk q hq).2.1 hf
      · rw [if_neg hf, if_neg hf]
  · exact SIM.same h0 (x_at_nk σ x k L r4 (by omega) hk) (m_at_nk μ x k L r5 (by omega) hk)
theorem op_size (h : RR σ μ c) (hc : c ≤ 64) (x : Int32) : SIM σ μ c yX0_size cX0_size 4 (some .int) 2 yX1_size cX1_size 4 (some .int) 3 [.int x] := by
  have h0 := h
  obtain ⟨N, L, r1, r2, r3, r4, r5, r6, r7, r8, r9, r10, r11⟩ := h
  rcases ixN (x := x) (c := L) (by omega) with hb | ⟨a, ha, e⟩
  · exact SIM.same h0 (x_size_bad σ x L r4 (by omega) hb) (m_size_bad μ x L r5 (by omega) hb)
  · subst e
    rcases Nat.lt_or_ge L (a + 6) with g | g
    · obtain ⟨tv, hk⟩ := r10 a (by omega) g
      exact SIM.same h0 (x_size σ a N L r4 (by omega) (by omega) g (by omega) tv) (m_size μ a _ L r5 (by omega) (by omega) g (fun q hq => (hk q hq).1))
    · exact SIM.same h0 (x_size_gone σ a L r4 (by omega) g) (m_size_gone μ a L r5 (by omega) g)
theorem op_changed (h : RR σ μ c) (hc : c ≤ 64) (x y : Int32) : SIM σ μ c yX0_changed cX0_changed 3 (some .int) 2 yX1_changed cX1_changed 5 (some .int) 2 [.int x, .int y] := by
  have h0 := h
  obtain ⟨N, L, r1, r2, r3, r4, r5, r6, r7, r8, r9, r10, r11⟩ := h
  rcases ixN (x := x) (c := L) (by omega) with hb | ⟨a, ha, e⟩
  · refine SIM.same h0 (x_changed_bad σ x y L r4 (by omega) ?_) (m_changed_bads μ x y L r5 (by omega) hb)
    rcases hb with z | z
    · exact Or.inl z
    · exact Or.inr (Or.inr (Or.inl z))
  · subst e
    rcases ixN (x := y) (c := L) (by omega) with hb | ⟨b, hb, e⟩
    · refine SIM.same h0 (x_changed_bad σ _ y L r4 (by omega) ?_) (m_changed_badt μ a y L r5 (by omega) (by omega) hb)
      rcases hb with z | z
      · exact Or.inr (Or.inl z)
      · exact Or.inr (Or.inr (Or.inr (Or.inl z)))
    · subst e
      rcases Nat.lt_or_ge a b with hab | hab
      · rcases Nat.lt_or_ge L (a + 6) with g | g
        · obtain ⟨tv, -⟩ := r10 b (by omega) (by omega)
          refine ⟨nI (ctT (σ 0) (σ 3) (nI a) (-1) 5 (σ 8 (b % 6)) 0), _, fun μ' => μ' = μ, x_changed σ a b N L r4 (by omega) hab (by omega) g (by omega) tv, KMi.mono (m_changed μ a b L r5 (by omega) hab (by omega) g) (fun r μ' z => ⟨?_, z.2⟩), ?_⟩
          · rw [z.1, ctT_whole]
            refine congrArg nI (fb_ct_cong (fun k hk => ?_))
            rw [b_m1 k hk, Bool.true_and, lat_KS (by omega) (by omega) tv, ors_bt r10 (by omega) g hk (b - a) (by omega), show a + (b - a) = b by omega]
          · rintro σ' μ' e1 e2
            rw [e2]
            exact h0.cong hc e1
        · exact SIM.same h0 (x_changed_gone σ a b L r4 (by omega) hab (by omega) g) (m_changed_gone μ a b L r5 (by omega) hab (by omega) g)
      · exact SIM.same h0 (x_changed_bad σ _ _ L r4 (by omega) (Or.inr (Or.inr (Or.inr (Or.inr (nI_nlt hab (by omega))))))) (m_changed_ge μ a b L r5 (by omega) (by omega) (by omega) hab)
end OS
end
section
set_option maxRecDepth 100000
section OC
variable {ch ch' st st' hv hv' lv lv' : Nat → Int32} {N : Nat} {x x' : Int32} {k : Nat}
theorem khB_eq (hN : N ≤ 512) (hT : TV ch st N 5 x) (hl : lf ch' 5 x' k = lf ch 5 x k) (hh : ∀ i, i < N → hv' i = hv i) : khB ch' hv' x' k = khB ch hv x k := by
  unfold khB
  rw [hl]
  rcases lf_ok hN 5 x hT k with h | ⟨m, h1, h2, -⟩
  · rw [h, decide_eq_false (fun z => absurd z.1 (by decide)), decide_eq_false (fun z => absurd z.1 (by decide))]
  · rw [h2, nI_clamp (by omega), hh m h1]
theorem kvB_eq (hN : N ≤ 512) (hT : TV ch st N 5 x) (hl : lf ch' 5 x' k = lf ch 5 x k) (hh : ∀ i, i < N → lv' i = lv i) (hk : khB ch hv x k = true) : kvB ch' lv' x' k = kvB ch lv x k := by
  unfold kvB
  rw [hl]
  rcases lf_ok hN 5 x hT k with h | ⟨m, h1, h2, -⟩
  · rw [khB_m1 h] at hk
    exact absurd hk (by decide)
  · rw [h2, nI_clamp (by omega), hh m h1]
theorem KS_eq (hN : N ≤ 512) (hT : TV ch st N 5 x) (hl : lf ch' 5 x' k = lf ch 5 x k) (hh : ∀ i, i < N → st' i = st i) : KS ch' st' x' k = KS ch st x k := by
  unfold KS
  rw [hl]
  rcases lf_ok hN 5 x hT k with h | ⟨m, h1, h2, -⟩
  · rw [h]
    rfl
  · rw [h2, nI_clamp (by omega), hh m h1]
end OC
section OD
variable {σ μ : ST} {c N L n : Nat}
/-- a transaction is closed, nothing else -/
theorem close_rel {σ' μ' : ST} (h2 : RR1 σ μ c N L) (hc : c ≤ 64) (hn : n < 4) (e : ∀ a, a < 17 → σ' a = su (su σ 9 n (nI 0)) 11 n (-1) a) (e' : μ' = su μ 4 n (nI 0)) : RR σ' μ' (c + 1) := by
  have h3 := h2
  obtain ⟨r1, r2, r3, r4, r5, r6, r7, r8, r9, r10, r11⟩ := h3
  have n9 : ∀ u, u ≠ n → σ' 9 u = σ 9 u := fun u hu => by rw [e 9 (by decide)]; show upd (σ 9) n (nI 0) u = _; rw [pk_un hu]
  have y9 : σ' 9 n = 0 := by rw [e 9 (by decide)]; show upd (σ 9) n (nI 0) n = _; rw [pk_us]; rfl
  have xa : ∀ a, a < 17 → a ≠ 9 → a ≠ 11 → σ' a = σ a := fun a hl ha hb => by rw [e a hl, su_ne _ _ _ hb, su_ne _ _ _ ha]
  have n11 : ∀ u, u ≠ n → σ' 11 u = σ 11 u := fun u hu => by rw [e 11 (by decide)]; show upd (σ 11) n (-1) u = _; rw [pk_un hu]
  have za : ∀ a, a ≠ 4 → μ' a = μ a := fun a ha => by rw [e', su_ne _ _ _ ha]
  refine RR1.step h2 (fun a ha => xa a (by omega) (by omega) (by omega)) (fun a ha => za a (by omega)) (fun j hj => by rw [za 5 (by decide)]; exact r9 j hj) ?_ (fun u hu => ?_)
  · refine pend_step hn (fun u hu hne => pend_ne (n9 u hne) (by rw [xa 13 (by decide) (by decide) (by decide)])) ?_
    have e0 : pend σ' n = 0 := by
      unfold pend
      rw [y9, if_pos rfl]
    omega
  · by_cases hun : u = n
    · subst hun
      refine ⟨?_, fun z => absurd y9 z⟩
      rw [y9, e']
      show _ = upd (μ 4) u (nI 0) u
      rw [pk_us]; rfl
    · obtain ⟨g1, g2⟩ := r11 u hu
      refine ⟨?_, fun z => ?_⟩
      · rw [n9 u hun, g1, e']
        show _ = upd (μ 4) n (nI 0) u
        rw [pk_un hun]
      · rw [n9 u hun] at z
        exact RT.other (by omega) (fun a ha => xa a (by omega) (by omega) (by omega)) ⟨by rw [xa 10 (by decide) (by decide) (by decide)], n11 u hun, by rw [xa 12 (by decide) (by decide) (by decide)], by rw [xa 13 (by decide) (by decide) (by decide)]⟩ (fun j _ => ⟨by rw [xa 14 (by decide) (by decide) (by decide)], by rw [xa 15 (by decide) (by decide) (by decide)], by rw [xa 16 (by decide) (by decide) (by decide)]⟩) ⟨by rw [za 7 (by decide)], by rw [za 8 (by decide)], by rw [za 9 (by decide)]⟩ (fun k hk2 => ⟨by rw [za 5 (by decide)], by rw [za 6 (by decide)]⟩) (g2 z)
/-- a commit -/
theorem commit_rel {σ' μ' : ST} {b v : Nat} {f : Nat → Bool} {g : Nat → Int32} {rt : Int32} (h2 : RR1 σ μ c N L) (hc : c ≤ 64) (hn : n < 4) (ho : ¬ σ 9 n = 0) (hRT : RT1 σ μ N L n b v f g) (hC : CmP σ σ' n v L N rt)
    (m1 : ∀ a, a ≠ 0 → a ≠ 1 → a ≠ 2 → a ≠ 3 → a ≠ 4 → a ≠ 9 → μ' a = μ a) (m0 : μ' 0 0 = nI (L + 1)) (m4 : μ' 4 = upd (μ 4) n (nI 0)) (mt : μ' 1 = fb_put (μ 1) (fun q => if bt (μ 7 n) q then μ 5 (32 * n + q) else μ 1 (32 * (L % 6) + q)) (32 * ((L + 1) % 6)) 32) (mv : μ' 2 = fb_put (μ 2) (fun q => if bt (μ 7 n) q then μ 6 (32 * n + q) else μ 2 (32 * (L % 6) + q)) (32 * ((L + 1) % 6)) 32) (m3 : μ' 3 = upd (μ 3) ((L + 1) % 6) (μ 7 n)) (m9 : ∀ u, u < 4 → μ' 9 u = μ 9 u ||| μ 7 n) : RR σ' μ' (c + 1) := by
  have h3 := h2
  obtain ⟨r1, r2, r3, r4, r5, r6, r7, r8, r9, r10, r11⟩ := h3
  obtain ⟨q1, q2, q3, q4, q5, q6, q7, q8, q9, q10, q11, q12, q13⟩ := hRT
  obtain ⟨a1, a9, a11, a7, a8, a5, a0, a123, a3, aT, ak, an⟩ := hC
  have hpv : pend σ n = v := by
    unfold pend
    rw [if_neg ho, q4, nI_clamp (by omega)]
  have xs : ∀ a, a = 6 ∨ a = 10 ∨ a = 12 ∨ a = 13 ∨ a = 14 ∨ a = 15 ∨ a = 16 → σ' a = σ a := fun a ha => a1 a (by omega) (by omega) (by omega) (by omega) (by omega) (by omega) (by omega) (by omega) (by omega) (by omega)
  have n9 : ∀ u, u ≠ n → σ' 9 u = σ 9 u := fun u hu => by rw [a9, pk_un hu]
  have y9 : σ' 9 n = 0 := by rw [a9, pk_us]; rfl
  have hcl := pend_close (σ := σ) (σ' := σ') hn (fun u hu hne => pend_ne (n9 u hne) (by rw [xs 13 (by decide)])) (by unfold pend; rw [y9, if_pos rfl])
  have hN' : N + 6 * v ≤ 512 := by omega
  have hL6 : L % 6 < 6 := Nat.mod_lt _ (by decide)
  have hL7 : (L + 1) % 6 < 6 := Nat.mod_lt _ (by decide)
  have y8 : σ' 8 ((L + 1) % 6) = rt := by rw [a8, pk_us]
  obtain ⟨tv, hkL⟩ := r10 L (Nat.le_refl _) (by omega)
  have b1 : ∀ i, i < N → σ' 1 i = σ 1 i := fun i hi => (a123 i hi).1
  have b2 : ∀ i, i < N → σ' 2 i = σ 2 i := fun i hi => (a123 i hi).2.1
  have b3 : ∀ i, i < N → σ' 3 i = σ 3 i := fun i hi => (a123 i hi).2.2
  -- a key that isn't written
  have hnow : ∀ k, k < 32 → bt (μ 7 n) k = false → lf (σ' 0) 5 rt k = lf (σ 0) 5 (σ 8 (L % 6)) k := fun k hk hb => an k hk (fun q hq z => by
    have := (q11 k hk).mpr ⟨q, hq, z⟩
    rw [hb] at this
    exact absurd this (by decide))
  have hKS : ∀ k, k < 32 → (bt (μ 7 n) k = true → KS (σ' 0) (σ' 3) rt k = nI (L + 1)) ∧ (bt (μ 7 n) k = false → KS (σ' 0) (σ' 3) rt k = KS (σ 0) (σ 3) (σ 8 (L % 6)) k) := fun k hk => by
    refine ⟨fun hb => ?_, fun hb => KS_eq (by omega) tv (hnow k hk hb) b3⟩
    obtain ⟨j, hj, hj2⟩ := (q11 k hk).mp hb
    obtain ⟨z1, -, -⟩ := ak j hj k hk hj2
    rw [KS_nd (by omega) z1, a3 _ (by omega) (by omega)]
  refine ⟨N + 6 * v, L + 1, by omega, by omega, a5, a7, m0, by rw [xs 6 (by decide)]; exact r6, fun i hi => ?_, fun j hj => ?_, fun j hj => by rw [m1 5 (by decide) (by decide) (by decide) (by decide) (by decide) (by decide)]; exact r9 j hj, fun a ha ha6 => ?_, fun u hu => ?_⟩
  · rcases Nat.lt_or_ge i N with z | z
    · rw [b3 i z]
      exact i32_le_trans (r7 i z) (nI_le (by omega) (by omega))
    · rw [a3 i z hi]
      exact i32_le_refl _
  · rw [mt]
    by_cases z : 32 * ((L + 1) % 6) ≤ j ∧ j < 32 * ((L + 1) % 6) + 32
    · rw [fb_put_in z.1 z.2]
      show ∃ b, (if bt (μ 7 n) (j - 32 * ((L + 1) % 6)) = true then _ else _) = bI b
      by_cases w : bt (μ 7 n) (j - 32 * ((L + 1) % 6)) = true
      · rw [if_pos w]; exact r9 _ (by omega)
      · rw [if_neg w]; exact r8 _ (by omega)
    · rw [fb_put_out (by omega)]
      exact r8 j hj
  · by_cases haL : a = L + 1
    · subst haL
      rw [y8]
      refine ⟨aT, fun k hk => ?_⟩
      have hput1 : μ' 1 (32 * ((L + 1) % 6) + k) = if bt (μ 7 n) k = true then μ 5 (32 * n + k) else μ 1 (32 * (L % 6) + k) := by
        rw [mt, fb_put_in (by omega) (by omega), show 32 * ((L + 1) % 6) + k - 32 * ((L + 1) % 6) = k by omega]
      have hput2 : μ' 2 (32 * ((L + 1) % 6) + k) = if bt (μ 7 n) k = true then μ 6 (32 * n + k) else μ 2 (32 * (L % 6) + k) := by
        rw [mv, fb_put_in (by omega) (by omega), show 32 * ((L + 1) % 6) + k - 32 * ((L + 1) % 6) = k by omega]
      unfold RK1
      rw [y8, hput1, hput2, m3, pk_us]
      obtain ⟨k1, k2, k3, -, -⟩ := hkL k hk
      rcases Bool.eq_false_or_eq_true (bt (μ 7 n) k) with hb | hb
      · obtain ⟨j, hj, hj2⟩ := (q11 k hk).mp hb
        obtain ⟨z1, z2, z3⟩ := ak j hj k hk hj2
        obtain ⟨w1, w2⟩ := (q8 k hk).1 j hj hj2
        have hkh : khB (σ' 0) (σ' 2) rt k = f k := by
          rcases Bool.eq_false_or_eq_true (f k) with hf | hf
          · rw [hf]; exact khB_1 (by omega) z1 (by rw [z3, w1, hf]; decide)
          · rw [hf]; exact khB_0 (by omega) z1 (by rw [z3, w1, hf]; rfl)
        rw [if_pos hb, if_pos hb, hkh, (hKS k hk).1 hb, hb]
        refine ⟨(q9 k hk).1, fun hf => ?_, i32_le_refl _, fun _ => (decide_eq_true rfl).symm, fun z => absurd z (by omega)⟩
        rw [(q9 k hk).2 hf, kvB_nd (by omega) z1, z2, w2, if_pos hf]
      · rw [if_neg (by rw [hb]; decide), if_neg (by rw [hb]; decide), khB_eq (by omega) tv (hnow k hk hb) b2, (hKS k hk).2 hb, hb]
        refine ⟨k1, fun hf => ?_, i32_le_trans k3 (nI_le (by omega) (by omega)), fun _ => (decide_eq_false (fun z => ?_)).symm, fun z => absurd z (by omega)⟩
        · rw [kvB_eq (by omega) tv (hnow k hk hb) b1 hf]
          exact k2 hf
        · rw [z] at k3
          exact nI_ge (show L < L + 1 by omega) (by omega) k3
    · have ha2 : a ≤ L := by omega
      have hm : a % 6 ≠ (L + 1) % 6 := by omega
      have ham : a % 6 < 6 := Nat.mod_lt _ (by decide)
      obtain ⟨ta, hka⟩ := r10 a ha2 (by omega)
      have y8a : σ' 8 (a % 6) = σ 8 (a % 6) := by rw [a8, pk_un hm]
      rw [y8a]
      refine ⟨TV.mono (by omega) hN' a0 b3 5 _ ta, fun k hk => ?_⟩
      obtain ⟨k1, k2, k3, k4, k5⟩ := hka k hk
      unfold RK1
      rw [y8a, khB_fr (by omega) ta a0 b2 k, KS_fr (by omega) ta a0 b3 k, mt, mv, m3, fb_put_out (by omega), fb_put_out (by omega), pk_un hm]
      refine ⟨k1, fun hf => ?_, k3, k4, fun z => ?_⟩
      · rw [kvB_fr (by omega) ta a0 b1 hf]; exact k2 hf
      · by_cases haL2 : a = L
        · subst haL2
          rw [y8]
          rcases Bool.eq_false_or_eq_true (bt (μ 7 n) k) with hb | hb
          · exact Or.inl ((hKS k hk).1 hb)
          · exact Or.inr ((hKS k hk).2 hb)
        · obtain ⟨tb, -⟩ := r10 (a + 1) (by omega) (by omega)
          have y8b : σ' 8 ((a + 1) % 6) = σ 8 ((a + 1) % 6) := by rw [a8, pk_un (by omega)]
          rw [y8b, KS_fr (by omega) tb a0 b3 k]
          exact k5 (by omega)
  · by_cases hun : u = n
    · subst hun
      refine ⟨?_, fun z => absurd y9 z⟩
      rw [y9, m4, pk_us]; rfl
    · obtain ⟨g1, g2⟩ := r11 u hu
      refine ⟨by rw [n9 u hun, m4, pk_un hun]; exact g1, fun z => ?_⟩
      rw [n9 u hun] at z
      have zz : ∀ a, a = 5 ∨ a = 6 ∨ a = 7 ∨ a = 8 → μ' a = μ a := fun a ha => m1 a (by omega) (by omega) (by omega) (by omega) (by omega) (by omega)
      refine RT.move (by omega) hN' (by omega) a0 a123 ⟨by rw [xs 10 (by decide)], by rw [a11, pk_un hun], by rw [xs 12 (by decide)], by rw [xs 13 (by decide)]⟩ (fun j _ => ⟨by rw [xs 14 (by decide)], by rw [xs 15 (by decide)], by rw [xs 16 (by decide)]⟩) ⟨by rw [zz 7 (by decide)], by rw [zz 8 (by decide)]⟩ (fun k _ => ⟨by rw [zz 5 (by decide)], by rw [zz 6 (by decide)]⟩) (fun b' hb' k hk e => ?_) (g2 z)
      rw [m9 u hu, b_or, e, y8]
      rcases Bool.eq_false_or_eq_true (bt (μ 7 n) k) with hb | hb
      · rw [(hKS k hk).1 hb, hb, Bool.or_true]
        exact (decide_eq_true (nI_lt (by omega) (by omega))).symm
      · rw [(hKS k hk).2 hb, hb, Bool.or_false]
theorem op_commit (h : RR σ μ c) (hc : c ≤ 63) (t : Int32) : SIM σ μ c yX0_commit cX0_commit 5 (some .int) 2 yX1_commit cX1_commit 6 (some .int) 1 [.int t] := by
  rcases ixN (x := t) (c := 3) (by decide) with hb | ⟨n, hn, e⟩
  · exact SIM.same h (x_commit_bad σ t hb) (m_commit_bad μ t hb)
  · subst e
    have h0 := h
    obtain ⟨N, L, h1⟩ := h
    have h2 := h1
    obtain ⟨r1, r2, r3, r4, r5, r6, r7, r8, r9, r10, r11⟩ := h1
    obtain ⟨e4, hRT⟩ := r11 n hn
    by_cases ho : σ 9 n = 0
    · exact SIM.same h0 (x_commit_cl σ n hn ho) (m_commit_cl μ n hn (by rw [← e4]; exact ho))
    · have ho' : ¬ μ 4 n = 0 := by rw [← e4]; exact ho
      obtain ⟨b, v, f, g, hR1⟩ := hRT ho
      have hR2 := hR1
      obtain ⟨q1, q2, q3, q4, q5, q6, q7, q8, q9, q10, q11, q12, q13⟩ := hR1
      obtain ⟨tv, -⟩ := r10 L (Nat.le_refl _) (by omega)
      have hpv : pend σ n = v := by
        unfold pend
        rw [if_neg ho, q4, nI_clamp (by omega)]
      have hsum : pend σ n ≤ fb_sm (pend σ) 4 := by
        have e : ∀ f : Nat → Nat, fb_sm f 4 = f 0 + f 1 + f 2 + f 3 := fun f => by simp [fb_sm]
        rw [e]
        rcases (show n = 0 ∨ n = 1 ∨ n = 2 ∨ n = 3 by omega) with g | g | g | g <;> subst g <;> omega
      have hct : ctT (σ 0) (σ 3) (σ 10 n) (σ 12 n) 5 (σ 8 (L % 6)) 0 = fb_ct (fun k => bt (μ 8 n) k && bt (μ 9 n) k) 32 := by
        rw [ctT_whole, q3, q6]
        refine fb_ct_cong (fun k hk => ?_)
        rw [lat_KS (by omega) (by omega) tv, q10 k hk]
      by_cases hcf : μ 8 n &&& μ 9 n = 0
      · have hz := and_zero.mp hcf
        refine ⟨nI (L + 1), _, _, x_commit_ok σ n v N L r4 (by omega) hn ho (by omega) tv (by rw [hct]; exact hz) q4 q2 (by omega) r3 r6 (fun i hi => i32_le_trans (r7 i hi) (nI_le (by omega) (by omega))) q12 q13 (fun q hq => ?_), m_commit_ok μ n L r5 (by omega) hn ho' hcf (fun j hj => bI_z (r8 j hj)) (fun j hj => bI_z (r9 j hj)), ?_⟩
        · obtain ⟨k, hk, hk2⟩ := q12 q hq
          rw [((q8 k hk).1 q hq hk2).1]
          exact bI_vz _
        · rintro σ' μ' ⟨rt, hC⟩ ⟨m1, m0, m4, mt, mv, m3, m9⟩
          exact commit_rel h2 (by omega) hn ho hR2 hC m1 m0 m4 mt mv m3 m9
      · refine ⟨-5, _, _, x_commit_conf σ n N L r4 (by omega) hn ho (by omega) tv (fun z => hcf (and_zero.mpr (by rw [← hct]; exact z))), m_commit_conf μ n hn ho' hcf, ?_⟩
        rintro σ' μ' e1 e2
        exact close_rel h2 (by omega) hn e1 e2
end OD
end
section
set_option maxRecDepth 100000
/-! THE CLAIM OUT OF ONE WALK OF THE LAW'S BODY. Your part is whole_start (and what it stands on); all else here is the same for every law, but numbers. -/
def R_law : String := "MeldLogLaw"
def lw_P (b : Addr) (xs : List Int32) (args : Array Value) (s : State) : Prop := args = #[.ref b] ∧ s.IntsAt b xs ∧ xs.length ≤ 256 ∧ (Jvm.Cond.and given_1 narrow_1).before args s = true
def lw_Q (_ : Array Value) (s : State) (o : Outcome) (t : State) : Prop := o = .returned (some (.int 1)) ∧ Framed s o t [] 600000 7290000
def lw_Z (below : List Frame) (a : Array Value) (s : State) : State → Prop := fun t => ∃ o, t.status = .running ∧ Ended t below o ∧ lw_Q a s o t
/-- the law's own end, with 1 on the stack, nothing written that was there before, its room as the claim has it -/
theorem lw_ret {p : Program} {l : Launch} {e : Env} {s : State} {m : MethodId} {below : List Frame} {meth : Method} {c : Code} {b : Nat} (hx : p.tables.exec = Jvm.exec) (hb : c.code = code) (hr : meth.sig.returnType = ret) (hlocks : meth.locks = false) {pc : Nat} {H : Heap} {ls : Array Slot} (hdg : decode code pc = .ok (.ireturn, 1)) : W p l e room_1 s m #[Value.ref b] below meth c H [] 600000 7290000 (lw_Z below #[Value.ref b] s) (F0 m pc ls [.int 1]) := by
  intro T hT X
  obtain ⟨fs, hret, hrun, hended, hW, hframe⟩ := X.leave (v := some (.int 1)) (hlocks := hlocks) (fun h => by rw [hr] at h; cases h)
  have hmeth' : T.vm.method? m = some meth := X.method'
  refine ⟨T.setFrames fs, ?_, .returned (some (.int 1)), hrun, hended, rfl, ⟨_, rfl⟩, hW, hframe⟩
  jvm_step X.here [X.here.top, hx, hb, hdg, hmeth', hr, ret, narrow_b1]
  (try refine ⟨rfl, ?_⟩); (try refine ⟨rfl, ?_⟩)
  first | (intro acts; rw [hret _ acts rfl rfl rfl]) | rw [hret _ _ rfl rfl rfl]
  exact Steps.refl _
/-- what holds at the law's entry: the machine, the code, the tables' words (any of lw_tbl by 'hts w (by decide +kernel)'), the script of L ints xs at the cell b, what the Statement gives of the start (any of its parts by flat_of_before) -/
def lw_At (p : Program) (s : State) (m : MethodId) (meth : Method) (c : Code) (b L : Nat) (xs : Nat → Int32) : Prop :=
  p.tables.exec = Jvm.exec ∧ c.code = code ∧ meth.sig.returnType = ret ∧ c.maxLocals = 4 ∧ s.vm.findClass R_law = some m.cls ∧ (∀ w ∈ lw_tbl, w.before #[Value.ref b] s = true) ∧ va_X b L xs s s.heap ∧ b < s.heap.size ∧ meth.locks = false ∧ (Jvm.Cond.and given_1 narrow_1).before #[Value.ref b] s = true
/-- the world of the law: MeldLog, then MeldLogModel -/
def LW (D : va_G) (s : State) (h : Nat) (ad : Nat → Nat) (d : Nat → ClassId) (σ : ST) (g : Nat) (ae : Nat → Nat) (de : Nat → ClassId) (μ : ST) (H : Heap) (locs : List Loc) : Prop :=
  va_K D cLs (tX d) s ∧ va_K D cLs (tM de) s ∧ va_P D cLs (WX h ad d σ ++ WM g ae de μ) H ∧ va_D (fun q : Nat => s.heap.size ≤ q) (WX h ad d σ ++ WM g ae de μ) ∧ va_S (fun q : Nat => s.heap.size ≤ q) s.heap H locs
/-- between the two calls: MeldLogModel, then MeldLog -/
def LV (D : va_G) (s : State) (h : Nat) (ad : Nat → Nat) (d : Nat → ClassId) (σ : ST) (g : Nat) (ae : Nat → Nat) (de : Nat → ClassId) (μ : ST) (H : Heap) (locs : List Loc) : Prop :=
  va_K D cLs (tX d) s ∧ va_K D cLs (tM de) s ∧ va_P D cLs (WM g ae de μ ++ WX h ad d σ) H ∧ va_D (fun q : Nat => s.heap.size ≤ q) (WM g ae de μ ++ WX h ad d σ) ∧ va_S (fun q : Nat => s.heap.size ≤ q) s.heap H locs
theorem app_l {α : Type} {a b : List α} {k : Nat} {q : α} (h : a[k]? = some q) : (a ++ b)[k]? = some q := by
  rw [List.getElem?_append_left (List.getElem?_eq_some_iff.mp h).1]
  exact h
section LC
variable {WW : Nat → (Nat → Nat) → (Nat → ClassId) → ST → va_W} {TT : (Nat → ClassId) → List (ClassId × FieldType)} {y : MethodName} {b : ByteArray} {L k : Nat} {r : Option FieldType} {as : List Value} {σ : ST}
variable {p : Program} {l : Launch} {e : Env} {R : Room} {s : State} {m : MethodId} {args : Array Value} {below : List Frame} {meth : Method} {c : Code} {H : Heap} {locs : List Loc} {cells slots : Nat} {Q : State → Prop}
variable {cc : ByteArray} {nL pc idx : Nat} {ls : Array Slot} {rest st0 : List Value} {D : va_G} {A : Nat → Prop} {H0 : Heap} {h : Nat} {ad : Nat → Nat} {d : Nat → ClassId} {own : String} {w2 : va_W}
/-- a call of an object beside others: what came back stands last -/
theorem l_call {C : String} {T : u_T} {N ci : Nat} {fs : List Value} {post : Int32 → ST → Prop} (hM : KMi WW TT y b L r k as σ post) (E : CallFix p m c cc nL s args lw_all own) (hK : va_K D cLs (TT d) s) (hP : va_P D cLs (WW h ad d σ ++ w2) H) (hD : va_D A (WW h ad d σ ++ w2)) (hS : va_S A H0 H locs) (hA : ∀ q, H0.size ≤ q → A q)
    (isC isR : List Nat) (hC : isC.map (fun i => (WW h ad d σ ++ w2)[i]?) = (WW h ad d σ).map some) (hI : isR.map (fun i => (WW h ad d σ ++ w2)[i]?) = w2.map some) (hn : va_nd isR = true) (hdis : ∀ i ∈ isR, i ∉ isC)
    (h1 : Cond.methodLink own idx y ∈ lw_all) (h2 : Cond.instanceMethod y ∈ lw_all) (h3 : Cond.selects C y y ∈ lw_all) (h4 : Cond.initialized C ∈ lw_all) (h5 : Cond.code y b L r ∈ lw_all) (hc : cLs[ci]? = some (C, T, N)) (hf : (WW h ad d σ)[0]? = some (h, .inr (ci, fs)))
    (na : Nat) (hna : as.length = na) (hd : y.cls = C ∧ y.cls ≠ "java/lang/invoke/MethodHandle" ∧ y.cls ≠ "java/lang/invoke/VarHandle" ∧ (parseMethodDescriptor y.desc).map (fun d => d.parameters.length) = some na) (hR : k + 1 ≤ R.frames ∧ 8 + (L + 11) + 40 * k ≤ R.locals) (hls : ls.size = nL) (hst : st0 = as.reverse ++ .ref h :: rest) (hrm : (rest.map fun v => v.category).sum ≤ 8) (hdg : decode cc pc = .ok (.invokevirtual idx, 3)) (hcs : cells ≤ R.cells ∧ slots ≤ R.slots)
    (kk : ∀ (v : Int32) (σ' : ST) (H1 : Heap) (locs1 : List Loc), post v σ' → va_P D cLs (w2 ++ WW h ad d σ') H1 → va_D A (w2 ++ WW h ad d σ') → va_S A H0 H1 locs1 → W p l e R s m args below meth c H1 locs1 cells slots Q (F0 m (pc + 3) ls (.int v :: rest))) : W p l e R s m args below meth c H locs cells slots Q (F0 m pc ls st0) := by
  have hPc : va_P D cLs (WW h ad d σ) H := fun k q hk => hP k q (app_l hk)
  have hDc : va_D A (WW h ad d σ) := ⟨fun i j p q hi hj e => hD.1 i j p q (app_l hi) (app_l hj) e, fun k q hk => hD.2 k q (app_l hk)⟩
  have hFc : ∀ q, va_A (WW h ad d σ) H.size q → A q := by
    intro q hq
    rcases hq with ⟨i, e, hi⟩ | hq
    · exact hDc.2 i _ hi
    · exact hA q (Nat.le_trans hS.1 hq)
  refine va_calli (va_runV (As := as) (rest := rest) E (hM l D h ad d H.size) (cwV na E.2.2.2.2 (lw_V h1 h2 h3 h4 h5) rfl rfl rfl hd hR) ⟨KPre.blind, va_recv hK hPc hc hf, fun U hU hW => ⟨rfl, by rw [hU], by rw [hU]; exact hPc, va_K.moved hW.alike hK, hDc.weaken (fun _ _ _ _ => trivial)⟩⟩ rfl hna hls hst (lv_room hrm) hdg hcs) hS (fun q _ h => hFc q h) hFc (fun v u t H1 locs1 ht hvm hp hB hz1 hk1 hS1 => ?_)
  obtain ⟨hP1, hK1, hD1⟩ := hB
  rw [ht] at hP1
  obtain ⟨hP2, hD2⟩ := va_join hP hD isC isR hC hI hn hdis hk1 hFc hP1 hD1
  exact kk v u H1 locs1 hp hP2 hD2 hS1
end LC
section LD
variable {p : Program} {l : Launch} {e : Env} {s : State} {m : MethodId} {below : List Frame} {meth : Method} {c : Code} {H : Heap} {locs : List Loc} {Q : State → Prop} {pc : Nat} {ls : Array Slot} {rest st0 : List Value} {D : va_G} {b L : Nat} {xs : Nat → Int32} {h : Nat} {ad : Nat → Nat} {d : Nat → ClassId} {σ : ST} {g : Nat} {ae : Nat → Nat} {de : Nat → ClassId} {μ : ST}
variable {y : MethodName} {bb : ByteArray} {LL k idx : Nat} {r : Option FieldType} {as : List Value} {post : Int32 → ST → Prop}
theorem l_callx (hM : KMi WX tX y bb LL r k as σ post) (E : CallFix p m c code 4 s #[Value.ref b] lw_all R_law) (w : LW D s h ad d σ g ae de μ H locs) (h1 : Cond.methodLink R_law idx y ∈ lw_all) (h2 : Cond.instanceMethod y ∈ lw_all) (h3 : Cond.selects RX0 y y ∈ lw_all) (h4 : Cond.initialized RX0 ∈ lw_all) (h5 : Cond.code y bb LL r ∈ lw_all)
    (na : Nat) (hna : as.length = na) (hd : y.cls = RX0 ∧ y.cls ≠ "java/lang/invoke/MethodHandle" ∧ y.cls ≠ "java/lang/invoke/VarHandle" ∧ (parseMethodDescriptor y.desc).map (fun d => d.parameters.length) = some na) (hR : k + 1 ≤ 6 ∧ 8 + (LL + 11) + 40 * k ≤ 186) (hls : ls.size = 4) (hst : st0 = as.reverse ++ .ref h :: rest) (hrm : (rest.map fun v => v.category).sum ≤ 8) (hdg : decode code pc = .ok (.invokevirtual idx, 3))
    (kk : ∀ (v : Int32) (σ' : ST) (H : Heap) (locs : List Loc), post v σ' → LV D s h ad d σ' g ae de μ H locs → W p l e room_1 s m #[Value.ref b] below meth c H locs 29 4423 Q (F0 m (pc + 3) ls (.int v :: rest))) : W p l e room_1 s m #[Value.ref b] below meth c H locs 29 4423 Q (F0 m pc ls st0) := by
  obtain ⟨hK1, hK2, hP, hD, hS⟩ := w
  exact l_call (ci := 0) (C := RX0) (T := TX0) (N := 21) hM E hK1 hP hD hS (fun _ h => h) [0, 1, 2, 3, 4, 5, 6, 7, 8, 9, 10, 11, 12, 13, 14, 15, 16, 17, 18] [19, 20, 21, 22, 23, 24, 25, 26, 27, 28] rfl rfl (by decide) (by decide) h1 h2 h3 h4 h5 rfl rfl na hna hd hR hls hst hrm hdg ⟨Nat.le_of_ble_eq_true rfl, Nat.le_of_ble_eq_true rfl⟩ (fun v σ' H locs hp hP hD hS => kk v σ' H locs hp ⟨hK1, hK2, hP, hD, hS⟩)
theorem l_callm (hM : KMi WM tM y bb LL r k as μ post) (E : CallFix p m c code 4 s #[Value.ref b] lw_all R_law) (w : LV D s h ad d σ g ae de μ H locs) (h1 : Cond.methodLink R_law idx y ∈ lw_all) (h2 : Cond.instanceMethod y ∈ lw_all) (h3 : Cond.selects RX1 y y ∈ lw_all) (h4 : Cond.initialized RX1 ∈ lw_all) (h5 : Cond.code y bb LL r ∈ lw_all)
    (na : Nat) (hna : as.length = na) (hd : y.cls = RX1 ∧ y.cls ≠ "java/lang/invoke/MethodHandle" ∧ y.cls ≠ "java/lang/invoke/VarHandle" ∧ (parseMethodDescriptor y.desc).map (fun d => d.parameters.length) = some na) (hR : k + 1 ≤ 6 ∧ 8 + (LL + 11) + 40 * k ≤ 186) (hls : ls.size = 4) (hst : st0 = as.reverse ++ .ref g :: rest) (hrm : (rest.map fun v => v.category).sum ≤ 8) (hdg : decode code pc = .ok (.invokevirtual idx, 3))
    (kk : ∀ (v : Int32) (σ' : ST) (H : Heap) (locs : List Loc), post v σ' → LW D s h ad d σ g ae de σ' H locs → W p l e room_1 s m #[Value.ref b] below meth c H locs 29 4423 Q (F0 m (pc + 3) ls (.int v :: rest))) : W p l e room_1 s m #[Value.ref b] below meth c H locs 29 4423 Q (F0 m pc ls st0) := by
  obtain ⟨hK1, hK2, hP, hD, hS⟩ := w
  exact l_call (ci := 1) (C := RX1) (T := TX1) (N := 10) hM E hK2 hP hD hS (fun _ h => h) [0, 1, 2, 3, 4, 5, 6, 7, 8, 9] [10, 11, 12, 13, 14, 15, 16, 17, 18, 19, 20, 21, 22, 23, 24, 25, 26, 27, 28] rfl rfl (by decide) (by decide) h1 h2 h3 h4 h5 rfl rfl na hna hd hR hls hst hrm hdg ⟨Nat.le_of_ble_eq_true rfl, Nat.le_of_ble_eq_true rfl⟩ (fun v σ' H locs hp hP hD hS => kk v σ' H locs hp ⟨hK1, hK2, hP, hD, hS⟩)
/-- an int of the script -/
theorem l_sld {j : Nat} (hx : p.tables.exec = Jvm.exec) (hb : c.code = code) (hX : va_X b L xs s s.heap) (hbl : b < s.heap.size) (hS : va_S (fun q : Nat => s.heap.size ≤ q) s.heap H locs) (hL : L ≤ 256) (hj : j < L) (hdg : decode code pc = .ok (.iaload, 1)) (kk : W p l e room_1 s m #[Value.ref b] below meth c H locs 29 4423 Q (F0 m (pc + 1) ls (.int (xs j) :: rest))) : W p l e room_1 s m #[Value.ref b] below meth c H locs 29 4423 Q (F0 m pc ls (.int (nI j) :: .ref b :: rest)) := by
  refine va_sld hx hb hX hbl (Nat.not_le.mpr hbl) hS (vp_in_nI hj (by omega)) hdg ?_
  rw [nI_clamp (by omega)]
  exact kk
end LD
/-- both are made: the states agree -/
theorem RR_0 {σ : ST} (h : INX σ) : RR σ (fun _ _ => 0) 0 := by
  obtain ⟨h5, h6, h8, h7, h9⟩ := h
  have hp : ∀ t, t < 4 → pend σ t = 0 := fun t ht => by
    unfold pend
    rw [h9 t ht, if_pos rfl]
  have hs : fb_sm (pend σ) 4 = 0 := by
    have e : ∀ f : Nat → Nat, fb_sm f 4 = f 0 + f 1 + f 2 + f 3 := fun f => by simp [fb_sm]
    rw [e, hp 0 (by decide), hp 1 (by decide), hp 2 (by decide), hp 3 (by decide)]
  refine ⟨0, 0, Nat.le_refl _, by omega, h5, h7, nI_0.symm, h6, fun i hi => absurd hi (by omega), fun j _ => ⟨false, rfl⟩, fun j _ => ⟨false, rfl⟩, fun a ha _ => ?_, fun t ht => ⟨h9 t ht, fun z => absurd (h9 t ht) z⟩⟩
  have ha0 : a = 0 := by omega
  subst ha0
  have e8 : σ 8 (0 % 6) = -1 := h8 0 (by decide)
  refine ⟨by rw [e8]; exact TV.m1 _, fun k hk => ?_⟩
  have hl : ∀ ch : Nat → Int32, lf ch 5 (σ 8 (0 % 6)) k = -1 := fun ch => by rw [e8]; exact lf_m1 5 k
  unfold RK1
  rw [khB_m1 (hl _), KS_m1 (hl _)]
  exact ⟨rfl, fun z => absurd z (by decide), i32_le_refl _, fun z => absurd z (by omega), fun z => absurd z (by omega)⟩
/-- the loop's own number: i + 4 <= L, or it ends -/
theorem lp_in {i L : Nat} (hi : i ≤ 256) (hL : L ≤ 256) (h : ¬ Int32.ofNat L - nI 4 < nI i) : i + 4 ≤ L := by
  rcases Nat.lt_or_ge L (i + 4) with z | z
  · refine absurd ((fa_lt _ _).mpr ?_) h
    show (nI L - nI 4).toInt < _
    rw [pk_sub_toInt (by omega) (by omega), nI_toInt (by omega)]
    omega
  · exact z
end
section
set_option maxRecDepth 100000
section LK
variable {p : Program} {l : Launch} {e : Env} {s : State} {m : MethodId} {below : List Frame} {meth : Method} {c : Code} {H : Heap} {locs : List Loc} {Q : State → Prop} {pc : Nat} {ls : Array Slot} {rest st0 : List Value} {D : va_G} {b L : Nat} {xs : Nat → Int32} {h : Nat} {ad : Nat → Nat} {d : Nat → ClassId} {σ : ST} {g : Nat} {ae : Nat → Nat} {de : Nat → ClassId} {μ : ST}
set_option maxHeartbeats 4000000 in
theorem lk_begin {n : Nat} (C0 : lw_At p s m meth c b L xs) (hL : L ≤ 256) (hn : 4 * n + 4 ≤ L) (hR : RR σ μ n) (w : LW D s h ad d σ g ae de μ H locs) (hl : lv_has ls 4 [(0, .ref b), (1, .ref h), (2, .ref g), (3, .int (nI (4 * n)))])
    (kk : ∀ (σ μ : ST) (H : Heap) (locs : List Loc), RR σ μ (n + 1) → LW D s h ad d σ g ae de μ H locs → W p l e room_1 s m #[Value.ref b] below meth c H locs 29 4423 Q (F0 m 489 ls [])) : W p l e room_1 s m #[Value.ref b] below meth c H locs 29 4423 Q (F0 m 100 ls []) := by
  obtain ⟨hx, hb, hr, hml, hown, hts0, hX, hbl, hlk, -⟩ := C0
  have hts : ∀ w ∈ lw_all, w.before #[Value.ref b] s = true := fun w h => hts0 w (lw_all_tbl h)
  have E : CallFix p m c code 4 s #[Value.ref b] lw_all R_law := ⟨hx, hb, hml, hown, hts⟩
  obtain ⟨rv, PX, PM, hMx, hMm, hR2⟩ := op_begin hR (by omega) (xs (4 * n + 1))
  refine lv_aload_n hx hb dL_law_100 rfl (lv_at hl 1 rfl) ?_
  refine lv_aload_n hx hb dL_law_101 rfl (lv_at hl 0 rfl) ?_
  refine lv_iload_n hx hb dL_law_102 rfl (lv_at hl 3 rfl) ?_
  refine lv_iconst (v := nI 1) hx hb dL_law_103 (by decide) ?_
  refine n_iadd hx hb dL_law_104 ?_
  refine l_sld hx hb hX hbl w.2.2.2.2 hL (by omega) dL_law_105 ?_
  refine l_callx hMx E w q98 q99 q100 q20 q101 1 rfl (by decide +kernel) ⟨Nat.le_of_ble_eq_true rfl, Nat.le_of_ble_eq_true rfl⟩ hl.1 rfl (Nat.le_of_ble_eq_true rfl) dL_law_106 (fun v0 s0 H locs hp0 w => ?_)
  refine lv_aload_n hx hb dL_law_109 rfl (lv_at hl 2 rfl) ?_
  refine lv_aload_n hx hb dL_law_110 rfl (lv_at hl 0 rfl) ?_
  refine lv_iload_n hx hb dL_law_111 rfl (lv_at hl 3 rfl) ?_
  refine lv_iconst (v := nI 1) hx hb dL_law_112 (by decide) ?_
  refine n_iadd hx hb dL_law_113 ?_
  refine l_sld hx hb hX hbl w.2.2.2.2 hL (by omega) dL_law_114 ?_
  refine l_callm hMm E w q236 q237 q238 q21 q239 1 rfl (by decide +kernel) ⟨Nat.le_of_ble_eq_true rfl, Nat.le_of_ble_eq_true rfl⟩ hl.1 rfl (Nat.le_of_ble_eq_true rfl) dL_law_115 (fun v1 s1 H locs hp1 w => ?_)
  refine lv_icmp_eq (tgt := 489) hx hb dL_law_118 (by decide) (fun _ => ?_) (fun z => absurd (hp0.1.trans hp1.1.symm) z)
  exact kk _ _ _ _ (hR2 _ _ hp0.2 hp1.2) w
set_option maxHeartbeats 4000000 in
theorem lk_write {n : Nat} (C0 : lw_At p s m meth c b L xs) (hL : L ≤ 256) (hn : 4 * n + 4 ≤ L) (hR : RR σ μ n) (w : LW D s h ad d σ g ae de μ H locs) (hl : lv_has ls 4 [(0, .ref b), (1, .ref h), (2, .ref g), (3, .int (nI (4 * n)))])
    (kk : ∀ (σ μ : ST) (H : Heap) (locs : List Loc), RR σ μ (n + 1) → LW D s h ad d σ g ae de μ H locs → W p l e room_1 s m #[Value.ref b] below meth c H locs 29 4423 Q (F0 m 489 ls [])) : W p l e room_1 s m #[Value.ref b] below meth c H locs 29 4423 Q (F0 m 123 ls []) := by
  obtain ⟨hx, hb, hr, hml, hown, hts0, hX, hbl, hlk, -⟩ := C0
  have hts : ∀ w ∈ lw_all, w.before #[Value.ref b] s = true := fun w h => hts0 w (lw_all_tbl h)
  have E : CallFix p m c code 4 s #[Value.ref b] lw_all R_law := ⟨hx, hb, hml, hown, hts⟩
  obtain ⟨rv, PX, PM, hMx, hMm, hR2⟩ := op_write hR (by omega) (xs (4 * n + 1)) (xs (4 * n + 2)) (xs (4 * n + 3))
  refine lv_aload_n hx hb dL_law_123 rfl (lv_at hl 1 rfl) ?_
  refine lv_aload_n hx hb dL_law_124 rfl (lv_at hl 0 rfl) ?_
  refine lv_iload_n hx hb dL_law_125 rfl (lv_at hl 3 rfl) ?_
  refine lv_iconst (v := nI 1) hx hb dL_law_126 (by decide) ?_
  refine n_iadd hx hb dL_law_127 ?_
  refine l_sld hx hb hX hbl w.2.2.2.2 hL (by omega) dL_law_128 ?_
  refine lv_aload_n hx hb dL_law_129 rfl (lv_at hl 0 rfl) ?_
  refine lv_iload_n hx hb dL_law_130 rfl (lv_at hl 3 rfl) ?_
  refine lv_iconst (v := nI 2) hx hb dL_law_131 (by decide) ?_
  refine n_iadd hx hb dL_law_132 ?_
  refine l_sld hx hb hX hbl w.2.2.2.2 hL (by omega) dL_law_133 ?_
  refine lv_aload_n hx hb dL_law_134 rfl (lv_at hl 0 rfl) ?_
  refine lv_iload_n hx hb dL_law_135 rfl (lv_at hl 3 rfl) ?_
  refine lv_iconst (v := nI 3) hx hb dL_law_136 (by decide) ?_
  refine n_iadd hx hb dL_law_137 ?_
  refine l_sld hx hb hX hbl w.2.2.2.2 hL (by omega) dL_law_138 ?_
  refine l_callx hMx E w q102 q103 q104 q20 q105 3 rfl (by decide +kernel) ⟨Nat.le_of_ble_eq_true rfl, Nat.le_of_ble_eq_true rfl⟩ hl.1 rfl (Nat.le_of_ble_eq_true rfl) dL_law_139 (fun v0 s0 H locs hp0 w => ?_)
  refine lv_aload_n hx hb dL_law_142 rfl (lv_at hl 2 rfl) ?_
  refine lv_aload_n hx hb dL_law_143 rfl (lv_at hl 0 rfl) ?_
  refine lv_iload_n hx hb dL_law_144 rfl (lv_at hl 3 rfl) ?_
  refine lv_iconst (v := nI 1) hx hb dL_law_145 (by decide) ?_
  refine n_iadd hx hb dL_law_146 ?_
  refine l_sld hx hb hX hbl w.2.2.2.2 hL (by omega) dL_law_147 ?_
  refine lv_aload_n hx hb dL_law_148 rfl (lv_at hl 0 rfl) ?_
  refine lv_iload_n hx hb dL_law_149 rfl (lv_at hl 3 rfl) ?_
  refine lv_iconst (v := nI 2) hx hb dL_law_150 (by decide) ?_
  refine n_iadd hx hb dL_law_151 ?_
  refine l_sld hx hb hX hbl w.2.2.2.2 hL (by omega) dL_law_152 ?_
  refine lv_aload_n hx hb dL_law_153 rfl (lv_at hl 0 rfl) ?_
  refine lv_iload_n hx hb dL_law_154 rfl (lv_at hl 3 rfl) ?_
  refine lv_iconst (v := nI 3) hx hb dL_law_155 (by decide) ?_
  refine n_iadd hx hb dL_law_156 ?_
  refine l_sld hx hb hX hbl w.2.2.2.2 hL (by omega) dL_law_157 ?_
  refine l_callm hMm E w q244 q245 q246 q21 q247 3 rfl (by decide +kernel) ⟨Nat.le_of_ble_eq_true rfl, Nat.le_of_ble_eq_true rfl⟩ hl.1 rfl (Nat.le_of_ble_eq_true rfl) dL_law_158 (fun v1 s1 H locs hp1 w => ?_)
  refine lv_icmp_eq (tgt := 489) hx hb dL_law_161 (by decide) (fun _ => ?_) (fun z => absurd (hp0.1.trans hp1.1.symm) z)
  exact kk _ _ _ _ (hR2 _ _ hp0.2 hp1.2) w
set_option maxHeartbeats 4000000 in
theorem lk_erase {n : Nat} (C0 : lw_At p s m meth c b L xs) (hL : L ≤ 256) (hn : 4 * n + 4 ≤ L) (hR : RR σ μ n) (w : LW D s h ad d σ g ae de μ H locs) (hl : lv_has ls 4 [(0, .ref b), (1, .ref h), (2, .ref g), (3, .int (nI (4 * n)))])
    (kk : ∀ (σ μ : ST) (H : Heap) (locs : List Loc), RR σ μ (n + 1) → LW D s h ad d σ g ae de μ H locs → W p l e room_1 s m #[Value.ref b] below meth c H locs 29 4423 Q (F0 m 489 ls [])) : W p l e room_1 s m #[Value.ref b] below meth c H locs 29 4423 Q (F0 m 166 ls []) := by
  obtain ⟨hx, hb, hr, hml, hown, hts0, hX, hbl, hlk, -⟩ := C0
  have hts : ∀ w ∈ lw_all, w.before #[Value.ref b] s = true := fun w h => hts0 w (lw_all_tbl h)
  have E : CallFix p m c code 4 s #[Value.ref b] lw_all R_law := ⟨hx, hb, hml, hown, hts⟩
  obtain ⟨rv, PX, PM, hMx, hMm, hR2⟩ := op_erase hR (by omega) (xs (4 * n + 1)) (xs (4 * n + 2))
  refine lv_aload_n hx hb dL_law_166 rfl (lv_at hl 1 rfl) ?_
  refine lv_aload_n hx hb dL_law_167 rfl (lv_at hl 0 rfl) ?_
  refine lv_iload_n hx hb dL_law_168 rfl (lv_at hl 3 rfl) ?_
  refine lv_iconst (v := nI 1) hx hb dL_law_169 (by decide) ?_
  refine n_iadd hx hb dL_law_170 ?_
  refine l_sld hx hb hX hbl w.2.2.2.2 hL (by omega) dL_law_171 ?_
  refine lv_aload_n hx hb dL_law_172 rfl (lv_at hl 0 rfl) ?_
  refine lv_iload_n hx hb dL_law_173 rfl (lv_at hl 3 rfl) ?_
  refine lv_iconst (v := nI 2) hx hb dL_law_174 (by decide) ?_
  refine n_iadd hx hb dL_law_175 ?_
  refine l_sld hx hb hX hbl w.2.2.2.2 hL (by omega) dL_law_176 ?_
  refine l_callx hMx E w q118 q119 q120 q20 q121 2 rfl (by decide +kernel) ⟨Nat.le_of_ble_eq_true rfl, Nat.le_of_ble_eq_true rfl⟩ hl.1 rfl (Nat.le_of_ble_eq_true rfl) dL_law_177 (fun v0 s0 H locs hp0 w => ?_)
  refine lv_aload_n hx hb dL_law_180 rfl (lv_at hl 2 rfl) ?_
  refine lv_aload_n hx hb dL_law_181 rfl (lv_at hl 0 rfl) ?_
  refine lv_iload_n hx hb dL_law_182 rfl (lv_at hl 3 rfl) ?_
  refine lv_iconst (v := nI 1) hx hb dL_law_183 (by decide) ?_
  refine n_iadd hx hb dL_law_184 ?_
  refine l_sld hx hb hX hbl w.2.2.2.2 hL (by omega) dL_law_185 ?_
  refine lv_aload_n hx hb dL_law_186 rfl (lv_at hl 0 rfl) ?_
  refine lv_iload_n hx hb dL_law_187 rfl (lv_at hl 3 rfl) ?_
  refine lv_iconst (v := nI 2) hx hb dL_law_188 (by decide) ?_
  refine n_iadd hx hb dL_law_189 ?_
  refine l_sld hx hb hX hbl w.2.2.2.2 hL (by omega) dL_law_190 ?_
  refine l_callm hMm E w q264 q265 q266 q21 q267 2 rfl (by decide +kernel) ⟨Nat.le_of_ble_eq_true rfl, Nat.le_of_ble_eq_true rfl⟩ hl.1 rfl (Nat.le_of_ble_eq_true rfl) dL_law_191 (fun v1 s1 H locs hp1 w => ?_)
  refine lv_icmp_eq (tgt := 489) hx hb dL_law_194 (by decide) (fun _ => ?_) (fun z => absurd (hp0.1.trans hp1.1.symm) z)
  exact kk _ _ _ _ (hR2 _ _ hp0.2 hp1.2) w
set_option maxHeartbeats 4000000 in
theorem lk_read {n : Nat} (C0 : lw_At p s m meth c b L xs) (hL : L ≤ 256) (hn : 4 * n + 4 ≤ L) (hR : RR σ μ n) (w : LW D s h ad d σ g ae de μ H locs) (hl : lv_has ls 4 [(0, .ref b), (1, .ref h), (2, .ref g), (3, .int (nI (4 * n)))])
    (kk : ∀ (σ μ : ST) (H : Heap) (locs : List Loc), RR σ μ (n + 1) → LW D s h ad d σ g ae de μ H locs → W p l e room_1 s m #[Value.ref b] below meth c H locs 29 4423 Q (F0 m 489 ls [])) : W p l e room_1 s m #[Value.ref b] below meth c H locs 29 4423 Q (F0 m 199 ls []) := by
  obtain ⟨hx, hb, hr, hml, hown, hts0, hX, hbl, hlk, -⟩ := C0
  have hts : ∀ w ∈ lw_all, w.before #[Value.ref b] s = true := fun w h => hts0 w (lw_all_tbl h)
  have E : CallFix p m c code 4 s #[Value.ref b] lw_all R_law := ⟨hx, hb, hml, hown, hts⟩
  obtain ⟨rv, PX, PM, hMx, hMm, hR2⟩ := op_read hR (by omega) (xs (4 * n + 1)) (xs (4 * n + 2))
  refine lv_aload_n hx hb dL_law_199 rfl (lv_at hl 1 rfl) ?_
  refine lv_aload_n hx hb dL_law_200 rfl (lv_at hl 0 rfl) ?_
  refine lv_iload_n hx hb dL_law_201 rfl (lv_at hl 3 rfl) ?_
  refine lv_iconst (v := nI 1) hx hb dL_law_202 (by decide) ?_
  refine n_iadd hx hb dL_law_203 ?_
  refine l_sld hx hb hX hbl w.2.2.2.2 hL (by omega) dL_law_204 ?_
  refine lv_aload_n hx hb dL_law_205 rfl (lv_at hl 0 rfl) ?_
  refine lv_iload_n hx hb dL_law_206 rfl (lv_at hl 3 rfl) ?_
  refine lv_iconst (v := nI 2) hx hb dL_law_207 (by decide) ?_
  refine n_iadd hx hb dL_law_208 ?_
  refine l_sld hx hb hX hbl w.2.2.2.2 hL (by omega) dL_law_209 ?_
  refine l_callx hMx E w q122 q123 q124 q20 q125 2 rfl (by decide +kernel) ⟨Nat.le_of_ble_eq_true rfl, Nat.le_of_ble_eq_true rfl⟩ hl.1 rfl (Nat.le_of_ble_eq_true rfl) dL_law_210 (fun v0 s0 H locs hp0 w => ?_)
  refine lv_aload_n hx hb dL_law_213 rfl (lv_at hl 2 rfl) ?_
  refine lv_aload_n hx hb dL_law_214 rfl (lv_at hl 0 rfl) ?_
  refine lv_iload_n hx hb dL_law_215 rfl (lv_at hl 3 rfl) ?_
  refine lv_iconst (v := nI 1) hx hb dL_law_216 (by decide) ?_
  refine n_iadd hx hb dL_law_217 ?_
  refine l_sld hx hb hX hbl w.2.2.2.2 hL (by omega) dL_law_218 ?_
  refine lv_aload_n hx hb dL_law_219 rfl (lv_at hl 0 rfl) ?_
  refine lv_iload_n hx hb dL_law_220 rfl (lv_at hl 3 rfl) ?_
  refine lv_iconst (v := nI 2) hx hb dL_law_221 (by decide) ?_
  refine n_iadd hx hb dL_law_222 ?_
  refine l_sld hx hb hX hbl w.2.2.2.2 hL (by omega) dL_law_223 ?_
  refine l_callm hMm E w q268 q269 q270 q21 q271 2 rfl (by decide +kernel) ⟨Nat.le_of_ble_eq_true rfl, Nat.le_of_ble_eq_true rfl⟩ hl.1 rfl (Nat.le_of_ble_eq_true rfl) dL_law_224 (fun v1 s1 H locs hp1 w => ?_)
  refine lv_icmp_eq (tgt := 489) hx hb dL_law_227 (by decide) (fun _ => ?_) (fun z => absurd (hp0.1.trans hp1.1.symm) z)
  exact kk _ _ _ _ (hR2 _ _ hp0.2 hp1.2) w
set_option maxHeartbeats 4000000 in
theorem lk_peek {n : Nat} (C0 : lw_At p s m meth c b L xs) (hL : L ≤ 256) (hn : 4 * n + 4 ≤ L) (hR : RR σ μ n) (w : LW D s h ad d σ g ae de μ H locs) (hl : lv_has ls 4 [(0, .ref b), (1, .ref h), (2, .ref g), (3, .int (nI (4 * n)))])
    (kk : ∀ (σ μ : ST) (H : Heap) (locs : List Loc), RR σ μ (n + 1) → LW D s h ad d σ g ae de μ H locs → W p l e room_1 s m #[Value.ref b] below meth c H locs 29 4423 Q (F0 m 489 ls [])) : W p l e room_1 s m #[Value.ref b] below meth c H locs 29 4423 Q (F0 m 232 ls []) := by
  obtain ⟨hx, hb, hr, hml, hown, hts0, hX, hbl, hlk, -⟩ := C0
  have hts : ∀ w ∈ lw_all, w.before #[Value.ref b] s = true := fun w h => hts0 w (lw_all_tbl h)
  have E : CallFix p m c code 4 s #[Value.ref b] lw_all R_law := ⟨hx, hb, hml, hown, hts⟩
  obtain ⟨rv, PX, PM, hMx, hMm, hR2⟩ := op_peek hR (by omega) (xs (4 * n + 1)) (xs (4 * n + 2))
  refine lv_aload_n hx hb dL_law_232 rfl (lv_at hl 1 rfl) ?_
  refine lv_aload_n hx hb dL_law_233 rfl (lv_at hl 0 rfl) ?_
  refine lv_iload_n hx hb dL_law_234 rfl (lv_at hl 3 rfl) ?_
  refine lv_iconst (v := nI 1) hx hb dL_law_235 (by decide) ?_
  refine n_iadd hx hb dL_law_236 ?_
  refine l_sld hx hb hX hbl w.2.2.2.2 hL (by omega) dL_law_237 ?_
  refine lv_aload_n hx hb dL_law_238 rfl (lv_at hl 0 rfl) ?_
  refine lv_iload_n hx hb dL_law_239 rfl (lv_at hl 3 rfl) ?_
  refine lv_iconst (v := nI 2) hx hb dL_law_240 (by decide) ?_
  refine n_iadd hx hb dL_law_241 ?_
  refine l_sld hx hb hX hbl w.2.2.2.2 hL (by omega) dL_law_242 ?_
  refine l_callx hMx E w q134 q135 q136 q20 q137 2 rfl (by decide +kernel) ⟨Nat.le_of_ble_eq_true rfl, Nat.le_of_ble_eq_true rfl⟩ hl.1 rfl (Nat.le_of_ble_eq_true rfl) dL_law_243 (fun v0 s0 H locs hp0 w => ?_)
  refine lv_aload_n hx hb dL_law_246 rfl (lv_at hl 2 rfl) ?_
  refine lv_aload_n hx hb dL_law_247 rfl (lv_at hl 0 rfl) ?_
  refine lv_iload_n hx hb dL_law_248 rfl (lv_at hl 3 rfl) ?_
  refine lv_iconst (v := nI 1) hx hb dL_law_249 (by decide) ?_
  refine n_iadd hx hb dL_law_250 ?_
  refine l_sld hx hb hX hbl w.2.2.2.2 hL (by omega) dL_law_251 ?_
  refine lv_aload_n hx hb dL_law_252 rfl (lv_at hl 0 rfl) ?_
  refine lv_iload_n hx hb dL_law_253 rfl (lv_at hl 3 rfl) ?_
  refine lv_iconst (v := nI 2) hx hb dL_law_254 (by decide) ?_
  refine n_iadd hx hb dL_law_255 ?_
  refine l_sld hx hb hX hbl w.2.2.2.2 hL (by omega) dL_law_256 ?_
  refine l_callm hMm E w q272 q273 q274 q21 q275 2 rfl (by decide +kernel) ⟨Nat.le_of_ble_eq_true rfl, Nat.le_of_ble_eq_true rfl⟩ hl.1 rfl (Nat.le_of_ble_eq_true rfl) dL_law_257 (fun v1 s1 H locs hp1 w => ?_)
  refine lv_icmp_eq (tgt := 489) hx hb dL_law_260 (by decide) (fun _ => ?_) (fun z => absurd (hp0.1.trans hp1.1.symm) z)
  exact kk _ _ _ _ (hR2 _ _ hp0.2 hp1.2) w
set_option maxHeartbeats 4000000 in
theorem lk_countRange {n : Nat} (C0 : lw_At p s m meth c b L xs) (hL : L ≤ 256) (hn : 4 * n + 4 ≤ L) (hR : RR σ μ n) (w : LW D s h ad d σ g ae de μ H locs) (hl : lv_has ls 4 [(0, .ref b), (1, .ref h), (2, .ref g), (3, .int (nI (4 * n)))])
    (kk : ∀ (σ μ : ST) (H : Heap) (locs : List Loc), RR σ μ (n + 1) → LW D s h ad d σ g ae de μ H locs → W p l e room_1 s m #[Value.ref b] below meth c H locs 29 4423 Q (F0 m 489 ls [])) : W p l e room_1 s m #[Value.ref b] below meth c H locs 29 4423 Q (F0 m 265 ls []) := by
  obtain ⟨hx, hb, hr, hml, hown, hts0, hX, hbl, hlk, -⟩ := C0
  have hts : ∀ w ∈ lw_all, w.before #[Value.ref b] s = true := fun w h => hts0 w (lw_all_tbl h)
  have E : CallFix p m c code 4 s #[Value.ref b] lw_all R_law := ⟨hx, hb, hml, hown, hts⟩
  obtain ⟨rv, PX, PM, hMx, hMm, hR2⟩ := op_countRange hR (by omega) (xs (4 * n + 1)) (xs (4 * n + 2)) (xs (4 * n + 3))
  refine lv_aload_n hx hb dL_law_265 rfl (lv_at hl 1 rfl) ?_
  refine lv_aload_n hx hb dL_law_266 rfl (lv_at hl 0 rfl) ?_
  refine lv_iload_n hx hb dL_law_267 rfl (lv_at hl 3 rfl) ?_
  refine lv_iconst (v := nI 1) hx hb dL_law_268 (by decide) ?_
  refine n_iadd hx hb dL_law_269 ?_
  refine l_sld hx hb hX hbl w.2.2.2.2 hL (by omega) dL_law_270 ?_
  refine lv_aload_n hx hb dL_law_271 rfl (lv_at hl 0 rfl) ?_
  refine lv_iload_n hx hb dL_law_272 rfl (lv_at hl 3 rfl) ?_
  refine lv_iconst (v := nI 2) hx hb dL_law_273 (by decide) ?_
  refine n_iadd hx hb dL_law_274 ?_
  refine l_sld hx hb hX hbl w.2.2.2.2 hL (by omega) dL_law_275 ?_
  refine lv_aload_n hx hb dL_law_276 rfl (lv_at hl 0 rfl) ?_
  refine lv_iload_n hx hb dL_law_277 rfl (lv_at hl 3 rfl) ?_
  refine lv_iconst (v := nI 3) hx hb dL_law_278 (by decide) ?_
  refine n_iadd hx hb dL_law_279 ?_
  refine l_sld hx hb hX hbl w.2.2.2.2 hL (by omega) dL_law_280 ?_
  refine l_callx hMx E w q138 q139 q140 q20 q141 3 rfl (by decide +kernel) ⟨Nat.le_of_ble_eq_true rfl, Nat.le_of_ble_eq_true rfl⟩ hl.1 rfl (Nat.le_of_ble_eq_true rfl) dL_law_281 (fun v0 s0 H locs hp0 w => ?_)
  refine lv_aload_n hx hb dL_law_284 rfl (lv_at hl 2 rfl) ?_
  refine lv_aload_n hx hb dL_law_285 rfl (lv_at hl 0 rfl) ?_
  refine lv_iload_n hx hb dL_law_286 rfl (lv_at hl 3 rfl) ?_
  refine lv_iconst (v := nI 1) hx hb dL_law_287 (by decide) ?_
  refine n_iadd hx hb dL_law_288 ?_
  refine l_sld hx hb hX hbl w.2.2.2.2 hL (by omega) dL_law_289 ?_
  refine lv_aload_n hx hb dL_law_290 rfl (lv_at hl 0 rfl) ?_
  refine lv_iload_n hx hb dL_law_291 rfl (lv_at hl 3 rfl) ?_
  refine lv_iconst (v := nI 2) hx hb dL_law_292 (by decide) ?_
  refine n_iadd hx hb dL_law_293 ?_
  refine l_sld hx hb hX hbl w.2.2.2.2 hL (by omega) dL_law_294 ?_
  refine lv_aload_n hx hb dL_law_295 rfl (lv_at hl 0 rfl) ?_
  refine lv_iload_n hx hb dL_law_296 rfl (lv_at hl 3 rfl) ?_
  refine lv_iconst (v := nI 3) hx hb dL_law_297 (by decide) ?_
  refine n_iadd hx hb dL_law_298 ?_
  refine l_sld hx hb hX hbl w.2.2.2.2 hL (by omega) dL_law_299 ?_
  refine l_callm hMm E w q276 q277 q278 q21 q279 3 rfl (by decide +kernel) ⟨Nat.le_of_ble_eq_true rfl, Nat.le_of_ble_eq_true rfl⟩ hl.1 rfl (Nat.le_of_ble_eq_true rfl) dL_law_300 (fun v1 s1 H locs hp1 w => ?_)
  refine lv_icmp_eq (tgt := 489) hx hb dL_law_303 (by decide) (fun _ => ?_) (fun z => absurd (hp0.1.trans hp1.1.symm) z)
  exact kk _ _ _ _ (hR2 _ _ hp0.2 hp1.2) w
set_option maxHeartbeats 4000000 in
theorem lk_commit {n : Nat} (C0 : lw_At p s m meth c b L xs) (hL : L ≤ 256) (hn : 4 * n + 4 ≤ L) (hR : RR σ μ n) (w : LW D s h ad d σ g ae de μ H locs) (hl : lv_has ls 4 [(0, .ref b), (1, .ref h), (2, .ref g), (3, .int (nI (4 * n)))])
    (kk : ∀ (σ μ : ST) (H : Heap) (locs : List Loc), RR σ μ (n + 1) → LW D s h ad d σ g ae de μ H locs → W p l e room_1 s m #[Value.ref b] below meth c H locs 29 4423 Q (F0 m 489 ls [])) : W p l e room_1 s m #[Value.ref b] below meth c H locs 29 4423 Q (F0 m 308 ls []) := by
  obtain ⟨hx, hb, hr, hml, hown, hts0, hX, hbl, hlk, -⟩ := C0
  have hts : ∀ w ∈ lw_all, w.before #[Value.ref b] s = true := fun w h => hts0 w (lw_all_tbl h)
  have E : CallFix p m c code 4 s #[Value.ref b] lw_all R_law := ⟨hx, hb, hml, hown, hts⟩
  obtain ⟨rv, PX, PM, hMx, hMm, hR2⟩ := op_commit hR (by omega) (xs (4 * n + 1))
  refine lv_aload_n hx hb dL_law_308 rfl (lv_at hl 1 rfl) ?_
  refine lv_aload_n hx hb dL_law_309 rfl (lv_at hl 0 rfl) ?_
  refine lv_iload_n hx hb dL_law_310 rfl (lv_at hl 3 rfl) ?_
  refine lv_iconst (v := nI 1) hx hb dL_law_311 (by decide) ?_
  refine n_iadd hx hb dL_law_312 ?_
  refine l_sld hx hb hX hbl w.2.2.2.2 hL (by omega) dL_law_313 ?_
  refine l_callx hMx E w q142 q143 q144 q20 q145 1 rfl (by decide +kernel) ⟨Nat.le_of_ble_eq_true rfl, Nat.le_of_ble_eq_true rfl⟩ hl.1 rfl (Nat.le_of_ble_eq_true rfl) dL_law_314 (fun v0 s0 H locs hp0 w => ?_)
  refine lv_aload_n hx hb dL_law_317 rfl (lv_at hl 2 rfl) ?_
  refine lv_aload_n hx hb dL_law_318 rfl (lv_at hl 0 rfl) ?_
  refine lv_iload_n hx hb dL_law_319 rfl (lv_at hl 3 rfl) ?_
  refine lv_iconst (v := nI 1) hx hb dL_law_320 (by decide) ?_
  refine n_iadd hx hb dL_law_321 ?_
  refine l_sld hx hb hX hbl w.2.2.2.2 hL (by omega) dL_law_322 ?_
  refine l_callm hMm E w q281 q282 q283 q21 q284 1 rfl (by decide +kernel) ⟨Nat.le_of_ble_eq_true rfl, Nat.le_of_ble_eq_true rfl⟩ hl.1 rfl (Nat.le_of_ble_eq_true rfl) dL_law_323 (fun v1 s1 H locs hp1 w => ?_)
  refine lv_icmp_eq (tgt := 489) hx hb dL_law_326 (by decide) (fun _ => ?_) (fun z => absurd (hp0.1.trans hp1.1.symm) z)
  exact kk _ _ _ _ (hR2 _ _ hp0.2 hp1.2) w
set_option maxHeartbeats 4000000 in
theorem lk_abort {n : Nat} (C0 : lw_At p s m meth c b L xs) (hL : L ≤ 256) (hn : 4 * n + 4 ≤ L) (hR : RR σ μ n) (w : LW D s h ad d σ g ae de μ H locs) (hl : lv_has ls 4 [(0, .ref b), (1, .ref h), (2, .ref g), (3, .int (nI (4 * n)))])
    (kk : ∀ (σ μ : ST) (H : Heap) (locs : List Loc), RR σ μ (n + 1) → LW D s h ad d σ g ae de μ H locs → W p l e room_1 s m #[Value.ref b] below meth c H locs 29 4423 Q (F0 m 489 ls [])) : W p l e room_1 s m #[Value.ref b] below meth c H locs 29 4423 Q (F0 m 331 ls []) := by
  obtain ⟨hx, hb, hr, hml, hown, hts0, hX, hbl, hlk, -⟩ := C0
  have hts : ∀ w ∈ lw_all, w.before #[Value.ref b] s = true := fun w h => hts0 w (lw_all_tbl h)
  have E : CallFix p m c code 4 s #[Value.ref b] lw_all R_law := ⟨hx, hb, hml, hown, hts⟩
  obtain ⟨rv, PX, PM, hMx, hMm, hR2⟩ := op_abort hR (by omega) (xs (4 * n + 1))
  refine lv_aload_n hx hb dL_law_331 rfl (lv_at hl 1 rfl) ?_
  refine lv_aload_n hx hb dL_law_332 rfl (lv_at hl 0 rfl) ?_
  refine lv_iload_n hx hb dL_law_333 rfl (lv_at hl 3 rfl) ?_
  refine lv_iconst (v := nI 1) hx hb dL_law_334 (by decide) ?_
  refine n_iadd hx hb dL_law_335 ?_
  refine l_sld hx hb hX hbl w.2.2.2.2 hL (by omega) dL_law_336 ?_
  refine l_callx hMx E w q170 q171 q172 q20 q173 1 rfl (by decide +kernel) ⟨Nat.le_of_ble_eq_true rfl, Nat.le_of_ble_eq_true rfl⟩ hl.1 rfl (Nat.le_of_ble_eq_true rfl) dL_law_337 (fun v0 s0 H locs hp0 w => ?_)
  refine lv_aload_n hx hb dL_law_340 rfl (lv_at hl 2 rfl) ?_
  refine lv_aload_n hx hb dL_law_341 rfl (lv_at hl 0 rfl) ?_
  refine lv_iload_n hx hb dL_law_342 rfl (lv_at hl 3 rfl) ?_
  refine lv_iconst (v := nI 1) hx hb dL_law_343 (by decide) ?_
  refine n_iadd hx hb dL_law_344 ?_
  refine l_sld hx hb hX hbl w.2.2.2.2 hL (by omega) dL_law_345 ?_
  refine l_callm hMm E w q285 q286 q287 q21 q288 1 rfl (by decide +kernel) ⟨Nat.le_of_ble_eq_true rfl, Nat.le_of_ble_eq_true rfl⟩ hl.1 rfl (Nat.le_of_ble_eq_true rfl) dL_law_346 (fun v1 s1 H locs hp1 w => ?_)
  refine lv_icmp_eq (tgt := 489) hx hb dL_law_349 (by decide) (fun _ => ?_) (fun z => absurd (hp0.1.trans hp1.1.symm) z)
  exact kk _ _ _ _ (hR2 _ _ hp0.2 hp1.2) w
set_option maxHeartbeats 4000000 in
theorem lk_latest {n : Nat} (C0 : lw_At p s m meth c b L xs) (hL : L ≤ 256) (hn : 4 * n + 4 ≤ L) (hR : RR σ μ n) (w : LW D s h ad d σ g ae de μ H locs) (hl : lv_has ls 4 [(0, .ref b), (1, .ref h), (2, .ref g), (3, .int (nI (4 * n)))])
    (kk : ∀ (σ μ : ST) (H : Heap) (locs : List Loc), RR σ μ (n + 1) → LW D s h ad d σ g ae de μ H locs → W p l e room_1 s m #[Value.ref b] below meth c H locs 29 4423 Q (F0 m 489 ls [])) : W p l e room_1 s m #[Value.ref b] below meth c H locs 29 4423 Q (F0 m 354 ls []) := by
  obtain ⟨hx, hb, hr, hml, hown, hts0, hX, hbl, hlk, -⟩ := C0
  have hts : ∀ w ∈ lw_all, w.before #[Value.ref b] s = true := fun w h => hts0 w (lw_all_tbl h)
  have E : CallFix p m c code 4 s #[Value.ref b] lw_all R_law := ⟨hx, hb, hml, hown, hts⟩
  obtain ⟨rv, PX, PM, hMx, hMm, hR2⟩ := op_latest hR (by omega)
  refine lv_aload_n hx hb dL_law_354 rfl (lv_at hl 1 rfl) ?_
  refine l_callx hMx E w q174 q175 q176 q20 q177 0 rfl (by decide +kernel) ⟨Nat.le_of_ble_eq_true rfl, Nat.le_of_ble_eq_true rfl⟩ hl.1 rfl (Nat.le_of_ble_eq_true rfl) dL_law_355 (fun v0 s0 H locs hp0 w => ?_)
  refine lv_aload_n hx hb dL_law_358 rfl (lv_at hl 2 rfl) ?_
  refine l_callm hMm E w q289 q290 q291 q21 q292 0 rfl (by decide +kernel) ⟨Nat.le_of_ble_eq_true rfl, Nat.le_of_ble_eq_true rfl⟩ hl.1 rfl (Nat.le_of_ble_eq_true rfl) dL_law_359 (fun v1 s1 H locs hp1 w => ?_)
  refine lv_icmp_eq (tgt := 489) hx hb dL_law_362 (by decide) (fun _ => ?_) (fun z => absurd (hp0.1.trans hp1.1.symm) z)
  exact kk _ _ _ _ (hR2 _ _ hp0.2 hp1.2) w
set_option maxHeartbeats 4000000 in
theorem lk_has {n : Nat} (C0 : lw_At p s m meth c b L xs) (hL : L ≤ 256) (hn : 4 * n + 4 ≤ L) (hR : RR σ μ n) (w : LW D s h ad d σ g ae de μ H locs) (hl : lv_has ls 4 [(0, .ref b), (1, .ref h), (2, .ref g), (3, .int (nI (4 * n)))])
    (kk : ∀ (σ μ : ST) (H : Heap) (locs : List Loc), RR σ μ (n + 1) → LW D s h ad d σ g ae de μ H locs → W p l e room_1 s m #[Value.ref b] below meth c H locs 29 4423 Q (F0 m 489 ls [])) : W p l e room_1 s m #[Value.ref b] below meth c H locs 29 4423 Q (F0 m 367 ls []) := by
  obtain ⟨hx, hb, hr, hml, hown, hts0, hX, hbl, hlk, -⟩ := C0
  have hts : ∀ w ∈ lw_all, w.before #[Value.ref b] s = true := fun w h => hts0 w (lw_all_tbl h)
  have E : CallFix p m c code 4 s #[Value.ref b] lw_all R_law := ⟨hx, hb, hml, hown, hts⟩
  obtain ⟨rv, PX, PM, hMx, hMm, hR2⟩ := op_has hR (by omega) (xs (4 * n + 1)) (xs (4 * n + 2))
  refine lv_aload_n hx hb dL_law_367 rfl (lv_at hl 1 rfl) ?_
  refine lv_aload_n hx hb dL_law_368 rfl (lv_at hl 0 rfl) ?_
  refine lv_iload_n hx hb dL_law_369 rfl (lv_at hl 3 rfl) ?_
  refine lv_iconst (v := nI 1) hx hb dL_law_370 (by decide) ?_
  refine n_iadd hx hb dL_law_371 ?_
  refine l_sld hx hb hX hbl w.2.2.2.2 hL (by omega) dL_law_372 ?_
  refine lv_aload_n hx hb dL_law_373 rfl (lv_at hl 0 rfl) ?_
  refine lv_iload_n hx hb dL_law_374 rfl (lv_at hl 3 rfl) ?_
  refine lv_iconst (v := nI 2) hx hb dL_law_375 (by decide) ?_
  refine n_iadd hx hb dL_law_376 ?_
  refine l_sld hx hb hX hbl w.2.2.2.2 hL (by omega) dL_law_377 ?_
  refine l_callx hMx E w q178 q179 q180 q20 q181 2 rfl (by decide +kernel) ⟨Nat.le_of_ble_eq_true rfl, Nat.le_of_ble_eq_true rfl⟩ hl.1 rfl (Nat.le_of_ble_eq_true rfl) dL_law_378 (fun v0 s0 H locs hp0 w => ?_)
  refine lv_aload_n hx hb dL_law_381 rfl (lv_at hl 2 rfl) ?_
  refine lv_aload_n hx hb dL_law_382 rfl (lv_at hl 0 rfl) ?_
  refine lv_iload_n hx hb dL_law_383 rfl (lv_at hl 3 rfl) ?_
  refine lv_iconst (v := nI 1) hx hb dL_law_384 (by decide) ?_
  refine n_iadd hx hb dL_law_385 ?_
  refine l_sld hx hb hX hbl w.2.2.2.2 hL (by omega) dL_law_386 ?_
  refine lv_aload_n hx hb dL_law_387 rfl (lv_at hl 0 rfl) ?_
  refine lv_iload_n hx hb dL_law_388 rfl (lv_at hl 3 rfl) ?_
  refine lv_iconst (v := nI 2) hx hb dL_law_389 (by decide) ?_
  refine n_iadd hx hb dL_law_390 ?_
  refine l_sld hx hb hX hbl w.2.2.2.2 hL (by omega) dL_law_391 ?_
  refine l_callm hMm E w q293 q294 q295 q21 q296 2 rfl (by decide +kernel) ⟨Nat.le_of_ble_eq_true rfl, Nat.le_of_ble_eq_true rfl⟩ hl.1 rfl (Nat.le_of_ble_eq_true rfl) dL_law_392 (fun v1 s1 H locs hp1 w => ?_)
  refine lv_icmp_eq (tgt := 489) hx hb dL_law_395 (by decide) (fun _ => ?_) (fun z => absurd (hp0.1.trans hp1.1.symm) z)
  exact kk _ _ _ _ (hR2 _ _ hp0.2 hp1.2) w
set_option maxHeartbeats 4000000 in
theorem lk_at {n : Nat} (C0 : lw_At p s m meth c b L xs) (hL : L ≤ 256) (hn : 4 * n + 4 ≤ L) (hR : RR σ μ n) (w : LW D s h ad d σ g ae de μ H locs) (hl : lv_has ls 4 [(0, .ref b), (1, .ref h), (2, .ref g), (3, .int (nI (4 * n)))])
    (kk : ∀ (σ μ : ST) (H : Heap) (locs : List Loc), RR σ μ (n + 1) → LW D s h ad d σ g ae de μ H locs → W p l e room_1 s m #[Value.ref b] below meth c H locs 29 4423 Q (F0 m 489 ls [])) : W p l e room_1 s m #[Value.ref b] below meth c H locs 29 4423 Q (F0 m 400 ls []) := by
  obtain ⟨hx, hb, hr, hml, hown, hts0, hX, hbl, hlk, -⟩ := C0
  have hts : ∀ w ∈ lw_all, w.before #[Value.ref b] s = true := fun w h => hts0 w (lw_all_tbl h)
  have E : CallFix p m c code 4 s #[Value.ref b] lw_all R_law := ⟨hx, hb, hml, hown, hts⟩
  obtain ⟨rv, PX, PM, hMx, hMm, hR2⟩ := op_at hR (by omega) (xs (4 * n + 1)) (xs (4 * n + 2))
  refine lv_aload_n hx hb dL_law_400 rfl (lv_at hl 1 rfl) ?_
  refine lv_aload_n hx hb dL_law_401 rfl (lv_at hl 0 rfl) ?_
  refine lv_iload_n hx hb dL_law_402 rfl (lv_at hl 3 rfl) ?_
  refine lv_iconst (v := nI 1) hx hb dL_law_403 (by decide) ?_
  refine n_iadd hx hb dL_law_404 ?_
  refine l_sld hx hb hX hbl w.2.2.2.2 hL (by omega) dL_law_405 ?_
  refine lv_aload_n hx hb dL_law_406 rfl (lv_at hl 0 rfl) ?_
  refine lv_iload_n hx hb dL_law_407 rfl (lv_at hl 3 rfl) ?_
  refine lv_iconst (v := nI 2) hx hb dL_law_408 (by decide) ?_
  refine n_iadd hx hb dL_law_409 ?_
  refine l_sld hx hb hX hbl w.2.2.2.2 hL (by omega) dL_law_410 ?_
  refine l_callx hMx E w q186 q187 q188 q20 q189 2 rfl (by decide +kernel) ⟨Nat.le_of_ble_eq_true rfl, Nat.le_of_ble_eq_true rfl⟩ hl.1 rfl (Nat.le_of_ble_eq_true rfl) dL_law_411 (fun v0 s0 H locs hp0 w => ?_)
  refine lv_aload_n hx hb dL_law_414 rfl (lv_at hl 2 rfl) ?_
  refine lv_aload_n hx hb dL_law_415 rfl (lv_at hl 0 rfl) ?_
  refine lv_iload_n hx hb dL_law_416 rfl (lv_at hl 3 rfl) ?_
  refine lv_iconst (v := nI 1) hx hb dL_law_417 (by decide) ?_
  refine n_iadd hx hb dL_law_418 ?_
  refine l_sld hx hb hX hbl w.2.2.2.2 hL (by omega) dL_law_419 ?_
  refine lv_aload_n hx hb dL_law_420 rfl (lv_at hl 0 rfl) ?_
  refine lv_iload_n hx hb dL_law_421 rfl (lv_at hl 3 rfl) ?_
  refine lv_iconst (v := nI 2) hx hb dL_law_422 (by decide) ?_
  refine n_iadd hx hb dL_law_423 ?_
  refine l_sld hx hb hX hbl w.2.2.2.2 hL (by omega) dL_law_424 ?_
  refine l_callm hMm E w q305 q306 q307 q21 q308 2 rfl (by decide +kernel) ⟨Nat.le_of_ble_eq_true rfl, Nat.le_of_ble_eq_true rfl⟩ hl.1 rfl (Nat.le_of_ble_eq_true rfl) dL_law_425 (fun v1 s1 H locs hp1 w => ?_)
  refine lv_icmp_eq (tgt := 489) hx hb dL_law_428 (by decide) (fun _ => ?_) (fun z => absurd (hp0.1.trans hp1.1.symm) z)
  exact kk _ _ _ _ (hR2 _ _ hp0.2 hp1.2) w
set_option maxHeartbeats 4000000 in
theorem lk_size {n : Nat} (C0 : lw_At p s m meth c b L xs) (hL : L ≤ 256) (hn : 4 * n + 4 ≤ L) (hR : RR σ μ n) (w : LW D s h ad d σ g ae de μ H locs) (hl : lv_has ls 4 [(0, .ref b), (1, .ref h), (2, .ref g), (3, .int (nI (4 * n)))])
    (kk : ∀ (σ μ : ST) (H : Heap) (locs : List Loc), RR σ μ (n + 1) → LW D s h ad d σ g ae de μ H locs → W p l e room_1 s m #[Value.ref b] below meth c H locs 29 4423 Q (F0 m 489 ls [])) : W p l e room_1 s m #[Value.ref b] below meth c H locs 29 4423 Q (F0 m 433 ls []) := by
  obtain ⟨hx, hb, hr, hml, hown, hts0, hX, hbl, hlk, -⟩ := C0
  have hts : ∀ w ∈ lw_all, w.before #[Value.ref b] s = true := fun w h => hts0 w (lw_all_tbl h)
  have E : CallFix p m c code 4 s #[Value.ref b] lw_all R_law := ⟨hx, hb, hml, hown, hts⟩
  obtain ⟨rv, PX, PM, hMx, hMm, hR2⟩ := op_size hR (by omega) (xs (4 * n + 1))
  refine lv_aload_n hx hb dL_law_433 rfl (lv_at hl 1 rfl) ?_
  refine lv_aload_n hx hb dL_law_434 rfl (lv_at hl 0 rfl) ?_
  refine lv_iload_n hx hb dL_law_435 rfl (lv_at hl 3 rfl) ?_
  refine lv_iconst (v := nI 1) hx hb dL_law_436 (by decide) ?_
  refine n_iadd hx hb dL_law_437 ?_
  refine l_sld hx hb hX hbl w.2.2.2.2 hL (by omega) dL_law_438 ?_
  refine l_callx hMx E w q191 q192 q193 q20 q194 1 rfl (by decide +kernel) ⟨Nat.le_of_ble_eq_true rfl, Nat.le_of_ble_eq_true rfl⟩ hl.1 rfl (Nat.le_of_ble_eq_true rfl) dL_law_439 (fun v0 s0 H locs hp0 w => ?_)
  refine lv_aload_n hx hb dL_law_442 rfl (lv_at hl 2 rfl) ?_
  refine lv_aload_n hx hb dL_law_443 rfl (lv_at hl 0 rfl) ?_
  refine lv_iload_n hx hb dL_law_444 rfl (lv_at hl 3 rfl) ?_
  refine lv_iconst (v := nI 1) hx hb dL_law_445 (by decide) ?_
  refine n_iadd hx hb dL_law_446 ?_
  refine l_sld hx hb hX hbl w.2.2.2.2 hL (by omega) dL_law_447 ?_
  refine l_callm hMm E w q310 q311 q312 q21 q313 1 rfl (by decide +kernel) ⟨Nat.le_of_ble_eq_true rfl, Nat.le_of_ble_eq_true rfl⟩ hl.1 rfl (Nat.le_of_ble_eq_true rfl) dL_law_448 (fun v1 s1 H locs hp1 w => ?_)
  refine lv_icmp_eq (tgt := 489) hx hb dL_law_451 (by decide) (fun _ => ?_) (fun z => absurd (hp0.1.trans hp1.1.symm) z)
  exact kk _ _ _ _ (hR2 _ _ hp0.2 hp1.2) w
set_option maxHeartbeats 4000000 in
theorem lk_changed {n : Nat} (C0 : lw_At p s m meth c b L xs) (hL : L ≤ 256) (hn : 4 * n + 4 ≤ L) (hR : RR σ μ n) (w : LW D s h ad d σ g ae de μ H locs) (hl : lv_has ls 4 [(0, .ref b), (1, .ref h), (2, .ref g), (3, .int (nI (4 * n)))])
    (kk : ∀ (σ μ : ST) (H : Heap) (locs : List Loc), RR σ μ (n + 1) → LW D s h ad d σ g ae de μ H locs → W p l e room_1 s m #[Value.ref b] below meth c H locs 29 4423 Q (F0 m 489 ls [])) : W p l e room_1 s m #[Value.ref b] below meth c H locs 29 4423 Q (F0 m 456 ls []) := by
  obtain ⟨hx, hb, hr, hml, hown, hts0, hX, hbl, hlk, -⟩ := C0
  have hts : ∀ w ∈ lw_all, w.before #[Value.ref b] s = true := fun w h => hts0 w (lw_all_tbl h)
  have E : CallFix p m c code 4 s #[Value.ref b] lw_all R_law := ⟨hx, hb, hml, hown, hts⟩
  obtain ⟨rv, PX, PM, hMx, hMm, hR2⟩ := op_changed hR (by omega) (xs (4 * n + 1)) (xs (4 * n + 2))
  refine lv_aload_n hx hb dL_law_456 rfl (lv_at hl 1 rfl) ?_
  refine lv_aload_n hx hb dL_law_457 rfl (lv_at hl 0 rfl) ?_
  refine lv_iload_n hx hb dL_law_458 rfl (lv_at hl 3 rfl) ?_
  refine lv_iconst (v := nI 1) hx hb dL_law_459 (by decide) ?_
  refine n_iadd hx hb dL_law_460 ?_
  refine l_sld hx hb hX hbl w.2.2.2.2 hL (by omega) dL_law_461 ?_
  refine lv_aload_n hx hb dL_law_462 rfl (lv_at hl 0 rfl) ?_
  refine lv_iload_n hx hb dL_law_463 rfl (lv_at hl 3 rfl) ?_
  refine lv_iconst (v := nI 2) hx hb dL_law_464 (by decide) ?_
  refine n_iadd hx hb dL_law_465 ?_
  refine l_sld hx hb hX hbl w.2.2.2.2 hL (by omega) dL_law_466 ?_
  refine l_callx hMx E w q195 q196 q197 q20 q198 2 rfl (by decide +kernel) ⟨Nat.le_of_ble_eq_true rfl, Nat.le_of_ble_eq_true rfl⟩ hl.1 rfl (Nat.le_of_ble_eq_true rfl) dL_law_467 (fun v0 s0 H locs hp0 w => ?_)
  refine lv_aload_n hx hb dL_law_470 rfl (lv_at hl 2 rfl) ?_
  refine lv_aload_n hx hb dL_law_471 rfl (lv_at hl 0 rfl) ?_
  refine lv_iload_n hx hb dL_law_472 rfl (lv_at hl 3 rfl) ?_
  refine lv_iconst (v := nI 1) hx hb dL_law_473 (by decide) ?_
  refine n_iadd hx hb dL_law_474 ?_
  refine l_sld hx hb hX hbl w.2.2.2.2 hL (by omega) dL_law_475 ?_
  refine lv_aload_n hx hb dL_law_476 rfl (lv_at hl 0 rfl) ?_
  refine lv_iload_n hx hb dL_law_477 rfl (lv_at hl 3 rfl) ?_
  refine lv_iconst (v := nI 2) hx hb dL_law_478 (by decide) ?_
  refine n_iadd hx hb dL_law_479 ?_
  refine l_sld hx hb hX hbl w.2.2.2.2 hL (by omega) dL_law_480 ?_
  refine l_callm hMm E w q314 q315 q316 q21 q317 2 rfl (by decide +kernel) ⟨Nat.le_of_ble_eq_true rfl, Nat.le_of_ble_eq_true rfl⟩ hl.1 rfl (Nat.le_of_ble_eq_true rfl) dL_law_481 (fun v1 s1 H locs hp1 w => ?_)
  refine lv_icmp_eq (tgt := 489) hx hb dL_law_484 (by decide) (fun _ => ?_) (fun z => absurd (hp0.1.trans hp1.1.symm) z)
  exact kk _ _ _ _ (hR2 _ _ hp0.2 hp1.2) w
end LK
end
section
set_option maxRecDepth 100000
section LL
variable {p : Program} {l : Launch} {e : Env} {s : State} {m : MethodId} {below : List Frame} {meth : Method} {c : Code} {pc : Nat} {rest st0 : List Value} {D : va_G} {b L : Nat} {xs : Nat → Int32} {h : Nat} {ad : Nat → Nat} {d : Nat → ClassId} {g : Nat} {ae : Nat → Nat} {de : Nat → ClassId}
set_option maxHeartbeats 4000000 in
theorem law_loop (C0 : lw_At p s m meth c b L xs) (hL : L ≤ 256) : ∀ (u n : Nat), n + u = 65 → 4 * n ≤ L → ∀ (σ μ : ST), RR σ μ n → ∀ (H : Heap) (locs : List Loc) (ls : Array Slot), LW D s h ad d σ g ae de μ H locs → lv_has ls 4 [(0, .ref b), (1, .ref h), (2, .ref g), (3, .int (nI (4 * n)))] → W p l e room_1 s m #[Value.ref b] below meth c H locs 29 4423 (lw_Z below #[Value.ref b] s) (F0 m 18 ls []) := by
  obtain ⟨hx, hb, hr, hml, hown, hts0, hX, hbl, hlk, hgv⟩ := id C0
  intro u
  induction u with
  | zero =>
    intro n hn h4
    exact absurd h4 (by omega)
  | succ u ih =>
    intro n hn h4 σ μ hR H locs ls w hl
    refine lv_iload_n hx hb dL_law_18 rfl (lv_at hl 3 rfl) ?_
    refine lv_aload_n hx hb dL_law_19 rfl (lv_at hl 0 rfl) ?_
    refine va_slen hx hb hX hbl (Nat.not_le.mpr hbl) w.2.2.2.2 dL_law_20 ?_
    refine lv_iconst (v := nI 4) hx hb dL_law_21 (by decide) ?_
    refine lv_isub hx hb dL_law_22 ?_
    refine lv_icmp_gt (tgt := 495) hx hb dL_law_23 (by decide) (fun _ => ?_) (fun hc => ?_)
    · refine lv_iconst (v := 1) hx hb dL_law_495 (by decide) ?_
      refine va_forget (fun q hq => w.2.2.2.2.2.2 q hq) ?_
      refine W.widen (k := 600000) (n := 7290000) (Nat.le_of_ble_eq_true rfl) (Nat.le_of_ble_eq_true rfl) ?_
      exact lw_ret hx hb hr hlk dL_law_496
    · have hi : 4 * n + 4 ≤ L := lp_in (by omega) hL hc
      refine lv_aload_n hx hb dL_law_26 rfl (lv_at hl 0 rfl) ?_
      refine lv_iload_n hx hb dL_law_27 rfl (lv_at hl 3 rfl) ?_
      refine l_sld hx hb hX hbl w.2.2.2.2 hL (by omega) dL_law_28 ?_
      refine lv_bipush (v := nI 15) hx hb dL_law_29 (by decide) ?_
      refine lv_iand hx hb dL_law_31 ?_
      obtain ⟨k, hk, ek⟩ := pk_andE (xs (4 * n)) (m := nI 15) 4 rfl
      refine g_eq ek ?_
      have kk : ∀ (σ μ : ST) (H : Heap) (locs : List Loc), RR σ μ (n + 1) → LW D s h ad d σ g ae de μ H locs → W p l e room_1 s m #[Value.ref b] below meth c H locs 29 4423 (lw_Z below #[Value.ref b] s) (F0 m 489 ls []) := by
        intro σ μ H locs hR w
        refine lv_iinc (v := nI (4 * (n + 1))) (lv' := [(3, .int (nI (4 * (n + 1)))), (0, .ref b), (1, .ref h), (2, .ref g)]) hx hb dL_law_489 hl (k := 3) rfl (nI_add (4 * n) 4) (by decide) rfl (fun ls hl => ?_)
        refine lv_goto (tgt := 18) hx hb dL_law_492 (by decide) ?_
        exact ih (n + 1) (by omega) (by omega) σ μ hR H locs ls w (lv_sub hl [1, 2, 3, 0] rfl)
      have hk16 : k < 16 := hk
      rcases (show k = 0 ∨ k = 1 ∨ k = 2 ∨ k = 3 ∨ k = 4 ∨ k = 5 ∨ k = 6 ∨ k = 7 ∨ k = 8 ∨ k = 9 ∨ k = 10 ∨ k = 11 ∨ k = 12 ∨ k = 13 ∨ k = 14 ∨ k = 15 by omega) with z | z | z | z | z | z | z | z | z | z | z | z | z | z | z | z <;> subst z
      · refine lv_tableIn (off := 68) (tgt := 100) hx hb dL_law_32 (by decide +kernel) (by decide +kernel) (by decide +kernel) (by decide) ?_
        exact lk_begin C0 hL hi hR w hl kk
      · refine lv_tableIn (off := 91) (tgt := 123) hx hb dL_law_32 (by decide +kernel) (by decide +kernel) (by decide +kernel) (by decide) ?_
        exact lk_write C0 hL hi hR w hl kk
      · refine lv_tableIn (off := 134) (tgt := 166) hx hb dL_law_32 (by decide +kernel) (by decide +kernel) (by decide +kernel) (by decide) ?_
        exact lk_erase C0 hL hi hR w hl kk
      · refine lv_tableIn (off := 167) (tgt := 199) hx hb dL_law_32 (by decide +kernel) (by decide +kernel) (by decide +kernel) (by decide) ?_
        exact lk_read C0 hL hi hR w hl kk
      · refine lv_tableIn (off := 200) (tgt := 232) hx hb dL_law_32 (by decide +kernel) (by decide +kernel) (by decide +kernel) (by decide) ?_
        exact lk_peek C0 hL hi hR w hl kk
      · refine lv_tableIn (off := 233) (tgt := 265) hx hb dL_law_32 (by decide +kernel) (by decide +kernel) (by decide +kernel) (by decide) ?_
        exact lk_countRange C0 hL hi hR w hl kk
      · refine lv_tableIn (off := 276) (tgt := 308) hx hb dL_law_32 (by decide +kernel) (by decide +kernel) (by decide +kernel) (by decide) ?_
        exact lk_commit C0 hL hi hR w hl kk
      · refine lv_tableIn (off := 299) (tgt := 331) hx hb dL_law_32 (by decide +kernel) (by decide +kernel) (by decide +kernel) (by decide) ?_
        exact lk_abort C0 hL hi hR w hl kk
      · refine lv_tableIn (off := 322) (tgt := 354) hx hb dL_law_32 (by decide +kernel) (by decide +kernel) (by decide +kernel) (by decide) ?_
        exact lk_latest C0 hL hi hR w hl kk
      · refine lv_tableIn (off := 335) (tgt := 367) hx hb dL_law_32 (by decide +kernel) (by decide +kernel) (by decide +kernel) (by decide) ?_
        exact lk_has C0 hL hi hR w hl kk
      · refine lv_tableIn (off := 368) (tgt := 400) hx hb dL_law_32 (by decide +kernel) (by decide +kernel) (by decide +kernel) (by decide) ?_
        exact lk_at C0 hL hi hR w hl kk
      · refine lv_tableIn (off := 401) (tgt := 433) hx hb dL_law_32 (by decide +kernel) (by decide +kernel) (by decide +kernel) (by decide) ?_
        exact lk_size C0 hL hi hR w hl kk
      · refine lv_tableIn (off := 424) (tgt := 456) hx hb dL_law_32 (by decide +kernel) (by decide +kernel) (by decide +kernel) (by decide) ?_
        exact lk_changed C0 hL hi hR w hl kk
      · refine lv_tableOut (tgt := 489) hx hb dL_law_32 (by decide +kernel) (by decide) ?_
        exact kk σ μ H locs hR.next w
      · refine lv_tableOut (tgt := 489) hx hb dL_law_32 (by decide +kernel) (by decide) ?_
        exact kk σ μ H locs hR.next w
      · refine lv_tableOut (tgt := 489) hx hb dL_law_32 (by decide +kernel) (by decide) ?_
        exact kk σ μ H locs hR.next w
end LL
end
section
set_option maxRecDepth 100000
set_option maxHeartbeats 4000000 in
theorem whole_start {p : Program} {e : Env} {s : State} {m : MethodId} {below : List Frame} {meth : Method} {c : Code} (l : Launch) {b L : Nat} {xs : Nat → Int32} (hL : L ≤ 256) (C0 : lw_At p s m meth c b L xs) : W p l e room_1 s m #[Value.ref b] below meth c s.heap [] 0 0 (lw_Z below #[Value.ref b] s) (entryFrame m ([Value.ref b] : List Value).toArray 4) := by
  obtain ⟨hx, hb, hr, hml, hown, hts0, hX, hbl, hlk, hgv⟩ := id C0
  have hts : ∀ w ∈ lw_all, w.before #[Value.ref b] s = true := fun w h => hts0 w (lw_all_tbl h)
  have E : CallFix p m c code 4 s #[Value.ref b] lw_all R_law := ⟨hx, hb, hml, hown, hts⟩
  have hA : ∀ q : Nat, s.heap.size ≤ q → (fun q : Nat => s.heap.size ≤ q) q := fun _ h => h
  obtain ⟨c0, iS0, hKn0⟩ := u_known (C := RX0) (T := TX0) (N := 21) (n := 21) hts in_X0 (hts _ q23)
  obtain ⟨c1, iS1, hKn1⟩ := u_known (C := RX1) (T := TX1) (N := 10) (n := 10) hts in_X1 (hts _ q200)
  obtain ⟨D, hKc⟩ : ∃ D : va_G, ∀ (k : Nat) (q : vw_C), cLs[k]? = some q → u_Kn s q.1 q.2.1 q.2.2 (D.1 k) (D.2 k) := by
    refine ⟨(fun k => if k = 0 then c0 else c1, fun k => if k = 0 then iS0 else iS1), ?_⟩
    intro k q hq
    match k, hq with
    | 0, hq => cases hq; exact hKn0
    | 1, hq => cases hq; exact hKn1
    | k + 2, hq => simp [cLs] at hq
  have hS : va_S (fun q : Nat => s.heap.size ≤ q) s.heap s.heap [] := va_S.rf
  have hK : va_K D cLs [] s := ⟨hKc, fun k q h => by simp at h⟩
  have hP : va_P D cLs [] s.heap := fun k q h => by simp at h
  have hD : va_D (fun q : Nat => s.heap.size ≤ q) [] := ⟨fun i j p q h => by simp at h, fun k q h => by simp at h⟩
  have hl := lv_entry ([.ref b]) (n := 4) (Nat.le_of_ble_eq_true rfl)
  rw [lg_entry_eq]
  generalize (lg_sl ([.ref b]) ++ List.replicate (4 - (lg_sl ([.ref b])).length) Slot.unset).toArray = ls at hl ⊢
  have hl : lv_has ls 4 [(0, .ref b)] := hl
  refine va_new (ci := 0) (fs := f0X) (C := RX0) (T := TX0) (N := 21) hx hb hts in_X0 tyX0 tyX0_ok hown (hts _ q22) (hts _ q23) (hts _ q20) hK hP hD hS hA rfl (fun j hj => by rcases (show j = 0 ∨ j = 1 ∨ j = 2 ∨ j = 3 ∨ j = 4 ∨ j = 5 ∨ j = 6 ∨ j = 7 ∨ j = 8 ∨ j = 9 ∨ j = 10 ∨ j = 11 ∨ j = 12 ∨ j = 13 ∨ j = 14 ∨ j = 15 ∨ j = 16 ∨ j = 17 ∨ j = 18 ∨ j = 19 ∨ j = 20 by omega) with rfl | rfl | rfl | rfl | rfl | rfl | rfl | rfl | rfl | rfl | rfl | rfl | rfl | rfl | rfl | rfl | rfl | rfl | rfl | rfl | rfl <;> rfl) (Nat.le_of_ble_eq_true rfl) (Nat.le_of_ble_eq_true rfl) dL_law_0 (fun h H hP hD hS => ?_)
  have hP : va_P D cLs [(h, .inr (0, f0X))] H := hP
  have hD : va_D (fun q : Nat => s.heap.size ≤ q) [(h, .inr (0, f0X))] := hD
  refine W.widen (k := 1) (n := 21) (by omega) (by omega) ?_
  refine lv_dup hx hb dL_law_3 rfl ?_
  have hPc := hP
  have hDc := hD
  have hKe := hK
  have hFc := va_free (wc := [(h, .inr (0, f0X))]) hD hS hA [0] rfl
  refine va_callv (va_runI (As := []) (rest := [.ref h]) E (x_init l D h H.size) (cwI 0 hts (lw_meth q26) rfl rfl rfl (hts _ q20) (hts _ q24) (hts _ q25) rfl (by decide +kernel) ⟨Nat.le_of_ble_eq_true rfl, Nat.le_of_ble_eq_true rfl⟩) ⟨fun a U g mk q => by obtain ⟨q0, q1, qP, qK, qD⟩ := q; exact ⟨q0, q1, qP, va_K.moved (u := U) (U := U.calling g mk a) (Vm.Alike.refl U.vm) qK, qD⟩, fun U hU hW => ⟨rfl, by rw [hU], by rw [hU]; exact hPc, va_K.moved hW.alike hKe, hDc.weaken (fun _ _ _ _ => trivial)⟩⟩ rfl rfl hl.1 rfl (lv_room (Nat.le_of_ble_eq_true rfl)) dL_law_4 ⟨Nat.le_of_ble_eq_true rfl, Nat.le_of_ble_eq_true rfl⟩) hS (fun q _ h => hFc q h) hFc (fun u t H1 locs ht hvm hI hB hz1 hk1 hS => ?_)
  obtain ⟨ad, d, σ⟩ := u
  have hI : INX σ := hI
  obtain ⟨hP1, hK1, hD1⟩ := hB
  rw [ht] at hP1
  have hK1 := va_K.moved hvm.symm hK1
  obtain ⟨hP, hD⟩ := va_join (wr := []) hP hD [0] [] rfl rfl (by decide) (by decide) hk1 hFc hP1 hD1
  generalize H1 = H at hP hS ⊢
  have hP : va_P D cLs (WX h ad d σ) H := hP
  have hD : va_D (fun q : Nat => s.heap.size ≤ q) (WX h ad d σ) := hD
  have hK1 : va_K D cLs (tX d) s := hK1
  refine W.widen (k := 19) (n := 3751) (by omega) (by omega) ?_
  refine lv_astore_n (lv' := [(1, .ref h), (0, .ref b)]) hx hb dL_law_7 rfl hl (by decide) rfl (fun ls hl => ?_)
  refine va_new (ci := 1) (fs := f0M) (C := RX1) (T := TX1) (N := 10) hx hb hts in_X1 tyX1 tyX1_ok hown (hts _ q199) (hts _ q200) (hts _ q21) hK hP hD hS hA rfl (fun j hj => by rcases (show j = 0 ∨ j = 1 ∨ j = 2 ∨ j = 3 ∨ j = 4 ∨ j = 5 ∨ j = 6 ∨ j = 7 ∨ j = 8 ∨ j = 9 by omega) with rfl | rfl | rfl | rfl | rfl | rfl | rfl | rfl | rfl | rfl <;> rfl) (Nat.le_of_ble_eq_true rfl) (Nat.le_of_ble_eq_true rfl) dL_law_8 (fun g H hP hD hS => ?_)
  refine W.widen (k := 20) (n := 3761) (by omega) (by omega) ?_
  refine lv_dup hx hb dL_law_11 rfl ?_
  have hPc : va_P D cLs [(g, .inr (1, f0M))] H := hP.sub [19] rfl
  have hDc : va_D (fun q : Nat => s.heap.size ≤ q) [(g, .inr (1, f0M))] := hD.sub [19] (by decide) rfl
  have hFc := va_free (wc := [(g, .inr (1, f0M))]) hD hS hA [19] rfl
  refine va_callv (va_runI (As := []) (rest := [.ref g]) E (m_init l D g H.size) (cwI 0 hts (lw_meth q203) rfl rfl rfl (hts _ q21) (hts _ q201) (hts _ q202) rfl (by decide +kernel) ⟨Nat.le_of_ble_eq_true rfl, Nat.le_of_ble_eq_true rfl⟩) ⟨fun a U g mk q => by obtain ⟨q0, q1, qP, qK, qD⟩ := q; exact ⟨q0, q1, qP, va_K.moved (u := U) (U := U.calling g mk a) (Vm.Alike.refl U.vm) qK, qD⟩, fun U hU hW => ⟨rfl, by rw [hU], by rw [hU]; exact hPc, va_K.moved hW.alike hKe, hDc.weaken (fun _ _ _ _ => trivial)⟩⟩ rfl rfl hl.1 rfl (lv_room (Nat.le_of_ble_eq_true rfl)) dL_law_12 ⟨Nat.le_of_ble_eq_true rfl, Nat.le_of_ble_eq_true rfl⟩) hS (fun q _ h => hFc q h) hFc (fun u t H1 locs ht hvm hI2 hB hz1 hk1 hS => ?_)
  obtain ⟨ae, de, μ⟩ := u
  have hI2 : μ = fun _ _ => 0 := hI2
  subst hI2
  obtain ⟨hP1, hK2, hD1⟩ := hB
  rw [ht] at hP1
  have hK2 := va_K.moved hvm.symm hK2
  obtain ⟨hP, hD⟩ := va_join (wr := WX h ad d σ) hP hD [19] [0, 1, 2, 3, 4, 5, 6, 7, 8, 9, 10, 11, 12, 13, 14, 15, 16, 17, 18] rfl rfl (by decide) (by decide) hk1 hFc hP1 hD1
  generalize H1 = H at hP hS ⊢
  refine W.widen (k := 29) (n := 4423) (by omega) (by omega) ?_
  refine lv_astore_n (lv' := [(2, .ref g), (1, .ref h), (0, .ref b)]) hx hb dL_law_15 rfl hl (by decide) rfl (fun ls hl => ?_)
  refine lv_iconst (v := nI 0) hx hb dL_law_16 (by decide) ?_
  refine lv_istore_n (lv' := [(3, .int (nI 0)), (2, .ref g), (1, .ref h), (0, .ref b)]) hx hb dL_law_17 rfl hl (by decide) rfl (fun ls hl => ?_)
  exact law_loop C0 hL 65 0 rfl (Nat.zero_le _) σ _ (RR_0 hI) _ _ ls ⟨hK1, hK2, hP, hD, hS⟩ (lv_sub hl [3, 2, 1, 0] rfl)
end
section
set_option maxRecDepth 100000
set_option maxHeartbeats 4000000 in
theorem lw_walk (l : Launch) (b : Addr) (xs : List Int32) : MetFree l x (headSpec (Jvm.Cond.code x code maxLocals ret :: tables_1) room_1) (lw_P b xs) (fun _ _ _ _ _ => True) lw_Q := by
  refine MetFree.of_bodyS (code := code) (maxLocals := maxLocals) (ret := ret) (by decide) ?_ ?_
  · intro args s m h hn
    obtain ⟨meth, c, h1, h2, h3, h4, h5, h6, -, -⟩ := Cond.code_spec hn (atoms_spec (ws := Jvm.Cond.code x code maxLocals ret :: tables_1) h _ List.mem_cons_self)
    exact ⟨meth, c, h1, h2, h3, h4, h5, h6⟩
  · intro p e s m args below meth c s₁ B hml0 hP _
    obtain ⟨rfl, hx, hbd, hgv⟩ := hP
    obtain ⟨scr, harrAt, hlist, hof, hsmall⟩ := hx
    obtain ⟨hcb, hkn, -, -⟩ := State.arrayAt?_spec harrAt
    have hown : s.vm.findClass R_law = some m.cls := findClass_of_methodNamed B.named
    have hts0 : ∀ c ∈ (Jvm.Cond.code x code maxLocals ret :: tables_1), c.before #[Value.ref b] s = true := atoms_spec (ws := Jvm.Cond.code x code maxLocals ret :: tables_1) B.pre
    have hts : ∀ w ∈ lw_tbl, w.before #[Value.ref b] s = true := k2_hts_sels lw_privs (fun w hw => hts0 w (List.mem_cons_of_mem _ hw)) lw_privs_ok
    have hml : c.maxLocals = 4 := B.maxLocals_eq (hts0 _ List.mem_cons_self)
    have X₀ : Stand p l e room_1 s m #[Value.ref b] below meth c s₁ [] 0 0 := Stand.of_body B
    have hh0 : s₁.heap = s.heap := by rw [B.state]; rfl
    have hsz : scr.slots.size = xs.length := by rw [← Array.length_toList, hlist, List.length_map]
    have hval : ∀ j : Nat, j < xs.length → scr.slots[j]? = some (.int (xs.getD j 0)) := fun j hj => by
      rw [← Array.getElem?_toList, hlist]
      simp [hj]
    have hbl : b < s.heap.size := (Array.getElem?_eq_some_iff.mp hcb).1
    have hX : va_X b xs.length (fun j => xs.getD j 0) s s.heap := ⟨scr, hcb, hof, hkn, hsz, hval⟩
    have K : W p l e room_1 s m #[Value.ref b] below meth c s₁.heap [] 0 0 (lw_Z below #[Value.ref b] s) (entryFrame m ([Value.ref b] : List Value).toArray 4) := by
      rw [hh0]
      exact whole_start l hbd ⟨B.exec, B.bytes, B.returns, hml, hown, hts, hX, hbl, B.notSynchronized, hgv⟩
    obtain ⟨t, a1, o, b1, b2, b3⟩ := K s₁ rfl X₀
    exact ⟨t, o, a1, b1, b2, b3⟩
theorem lw_pre_spec {args : Array Value} {s : State} (h : (Jvm.Cond.and given_1 narrow_1).before args s = true) (hr : rest_1_c.before args s = true) : ∃ (b : Addr) (xs : List Int32), lw_P b xs args s := by
  have hs := flat_of_before _ h
  have hq := flat_of_before _ hr
  have hc : (Cond.count 1).before args s = true := hs _ (by decide +kernel)
  have harr : (Cond.arrayOf (.arg 0) .int).before args s = true := hs _ (by decide +kernel)
  have hle : (Cond.le (.length (.arg 0)) (.int 256)).before args s = true := hs _ (by decide +kernel)
  have hlen : (Cond.isInt (.length (.arg 0))).before args s = true := hq _ (by decide +kernel)
  have hall : (Cond.all (.arg 0) (.isInt (.elem (.arg 0) (.index 0)))).before args s = true := hq _ (by decide +kernel)
  obtain ⟨b, xs, hb, hx⟩ := State.ints_of_pre rfl harr hlen hall
  have hsm : xs.length < 2 ^ 31 := hx.choose_spec.2.2.2
  have hev : (Term.length (.arg 0)).eval args s none [] s = some (.int xs.length.toInt32) := hx.length_eval hb
  have hv := Cond.le_ints hev (show (Term.int 256).eval args s none [] s = some (.int 256) from rfl)
  have hd : xs.length.toInt32 ≤ 256 := by
    simpa [Cond.before, Cond.holds, hv] using hle
  have hN : xs.length ≤ 256 := (Int32.ofNat_le_ofNat hsm (by decide)).mp (show Int32.ofNat xs.length ≤ Int32.ofNat 256 from hd)
  exact ⟨b, xs, Cond.one_arg hc (show args[0]? = some (.ref b) from hb), hx, hN, h⟩
theorem lw_comes (l : Launch) : Comes l x (Jvm.Cond.code x code maxLocals ret :: tables_1) room_1 (fun tb e args s => Calls_1 tb e args s ∧ rest_1 tb e args s ∧ Pre_1 tb e args s)
    (fun _ _ args s o t => lw_Q args s o t) := by
  intro p e ha hc hk s m args below hf hfit hheap happ hpre
  obtain ⟨b, xs, hP⟩ := lw_pre_spec hpre.2.2 hpre.2.1
  obtain ⟨k, o, h1, h2, h3, hQ⟩ := lw_walk l b xs p e ha hc hk s m args below hf ((Spec.applies_iff_loose hf).mp happ).1 hP trivial
  exact ⟨k, o, h1, h2, h3, hQ⟩
theorem lw_frame {s t : State} {o : Outcome} {args : Array Value} (h : Framed s o t [] 600000 7290000) :
    Framed s o t (fieldLocs frame_1_writes args s ++ arrayLocs frame_1_arrays args s ++ staticLocs frame_1_statics s) 600000 7290000 := h
theorem lw_limb (L : Cond) (hL : ∀ (args : Array Value) (s t : State), L.after args s (.returned (some (.int 1))) t = true) :
    ArmFor flags0 classFile x code maxLocals ret World_1 tables_1 room_1 Calls_1 rest_1 Pre_1
      (fun tb e a s o t => postC L tb e a s o t ∧ Framed s o t (fieldLocs frame_1_writes a s ++ arrayLocs frame_1_arrays a s ++ staticLocs frame_1_statics s) 600000 7290000) := by
  intro l _ _ _ p e ha hc hk s m args below hf hfit hheap happ hpre
  obtain ⟨k, o, h1, h2, h3, rfl, hF⟩ := lw_comes l p e ha hc hk s m args below hf hfit hheap happ hpre
  exact ⟨k, _, h1, h2, h3, hL args s _, lw_frame hF⟩
theorem i_vc : Claimed_1_1 ∧ Claimed_1_2 := ⟨lw_limb limb_1_1 (fun args s t => by simp [limb_1_1, Cond.after, Cond.holds, Cond.value]), lw_limb limb_1_2 (fun args s t => Cond.after_iff.mpr (by
  first | (rw [show limb_1_2 = Cond.eq .result (.int 1) from rfl, Cond.eq_ints (x := 1) (y := 1) rfl rfl]; simp; done) | (simp [limb_1_2, Cond.value, Term.eval]; done)))⟩
end
