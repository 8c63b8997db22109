section
/-- a private method of a class that the tables say can be made, by its rows of tables_1 -/
def lw_okq (q : MethodName × Nat) : Prop := (q.1.cls ≠ "java/lang/invoke/MethodHandle" ∧ q.1.cls ≠ "java/lang/invoke/VarHandle") ∧ Cond.instantiable q.1.cls q.2 ∈ tables_1 ∧ Cond.privateMethod q.1 ∈ tables_1 ∧ Cond.instanceMethod q.1 ∈ tables_1
set_option maxRecDepth 100000
theorem lw_t1 {w : Cond} (h : w ∈ tables_1_1) : w ∈ tables_1 := List.mem_append_left _ h
theorem lw_t2 {w : Cond} (h : w ∈ tables_1_2) : w ∈ tables_1 := List.mem_append_right _ h
theorem lw_p0 : lw_okq (⟨"LoadStoreQueue", "isRegister", "(I)Z"⟩, 20) := ⟨⟨by decide +kernel, by decide +kernel⟩, lw_t1 (List.mem_of_getElem? (i := 4) rfl), lw_t1 (List.mem_of_getElem? (i := 79) rfl), lw_t1 (List.mem_of_getElem? (i := 80) rfl)⟩
theorem lw_p1 : lw_okq (⟨"LoadStoreQueue", "findGivers", "()V"⟩, 20) := ⟨⟨by decide +kernel, by decide +kernel⟩, lw_t1 (List.mem_of_getElem? (i := 4) rfl), lw_t1 (List.mem_of_getElem? (i := 95) rfl), lw_t1 (List.mem_of_getElem? (i := 96) rfl)⟩
theorem lw_p2 : lw_okq (⟨"LoadStoreQueue", "hasThree", "(I)Z"⟩, 20) := ⟨⟨by decide +kernel, by decide +kernel⟩, lw_t1 (List.mem_of_getElem? (i := 4) rfl), lw_t1 (List.mem_of_getElem? (i := 99) rfl), lw_t1 (List.mem_of_getElem? (i := 100) rfl)⟩
theorem lw_p3 : lw_okq (⟨"LoadStoreQueue", "setBack", "(I)V"⟩, 20) := ⟨⟨by decide +kernel, by decide +kernel⟩, lw_t1 (List.mem_of_getElem? (i := 4) rfl), lw_t1 (List.mem_of_getElem? (i := 103) rfl), lw_t1 (List.mem_of_getElem? (i := 104) rfl)⟩
theorem lw_p4 : lw_okq (⟨"LoadStoreQueue", "advance", "(I)V"⟩, 20) := ⟨⟨by decide +kernel, by decide +kernel⟩, lw_t1 (List.mem_of_getElem? (i := 4) rfl), lw_t1 (List.mem_of_getElem? (i := 107) rfl), lw_t1 (List.mem_of_getElem? (i := 108) rfl)⟩
theorem lw_p5 : lw_okq (⟨"LoadStoreQueue", "roll", "(I)I"⟩, 20) := ⟨⟨by decide +kernel, by decide +kernel⟩, lw_t1 (List.mem_of_getElem? (i := 4) rfl), lw_t1 (List.mem_of_getElem? (i := 111) rfl), lw_t1 (List.mem_of_getElem? (i := 112) rfl)⟩
theorem lw_p6 : lw_okq (⟨"LoadStoreQueue", "canStart", "(I)Z"⟩, 20) := ⟨⟨by decide +kernel, by decide +kernel⟩, lw_t1 (List.mem_of_getElem? (i := 4) rfl), lw_t1 (List.mem_of_getElem? (i := 116) rfl), lw_t1 (List.mem_of_getElem? (i := 117) rfl)⟩
theorem lw_p7 : lw_okq (⟨"LoadStoreQueue", "isThere", "(I)Z"⟩, 20) := ⟨⟨by decide +kernel, by decide +kernel⟩, lw_t1 (List.mem_of_getElem? (i := 4) rfl), lw_t1 (List.mem_of_getElem? (i := 120) rfl), lw_t1 (List.mem_of_getElem? (i := 121) rfl)⟩
theorem lw_p8 : lw_okq (⟨"LoadStoreQueue", "finishLoad", "(I)V"⟩, 20) := ⟨⟨by decide +kernel, by decide +kernel⟩, lw_t1 (List.mem_of_getElem? (i := 4) rfl), lw_t1 (List.mem_of_getElem? (i := 124) rfl), lw_t1 (List.mem_of_getElem? (i := 125) rfl)⟩
theorem lw_p9 : lw_okq (⟨"LoadStoreQueue", "addressOf", "(I)I"⟩, 20) := ⟨⟨by decide +kernel, by decide +kernel⟩, lw_t1 (List.mem_of_getElem? (i := 4) rfl), lw_t1 (List.mem_of_getElem? (i := 128) rfl), lw_t1 (List.mem_of_getElem? (i := 129) rfl)⟩
theorem lw_p10 : lw_okq (⟨"LoadStoreQueue", "valueFrom", "(II)I"⟩, 20) := ⟨⟨by decide +kernel, by decide +kernel⟩, lw_t1 (List.mem_of_getElem? (i := 4) rfl), lw_t1 (List.mem_of_getElem? (i := 132) rfl), lw_t1 (List.mem_of_getElem? (i := 133) rfl)⟩
theorem lw_p11 : lw_okq (⟨"LoadStoreQueue", "finishStore", "(I)V"⟩, 20) := ⟨⟨by decide +kernel, by decide +kernel⟩, lw_t1 (List.mem_of_getElem? (i := 4) rfl), lw_t1 (List.mem_of_getElem? (i := 136) rfl), lw_t1 (List.mem_of_getElem? (i := 137) rfl)⟩
theorem lw_p12 : lw_okq (⟨"LoadStoreQueue", "catchEarly", "(II)V"⟩, 20) := ⟨⟨by decide +kernel, by decide +kernel⟩, lw_t1 (List.mem_of_getElem? (i := 4) rfl), lw_t1 (List.mem_of_getElem? (i := 140) rfl), lw_t1 (List.mem_of_getElem? (i := 141) rfl)⟩
theorem lw_p13 : lw_okq (⟨"LoadStoreQueue", "finishPlain", "(I)V"⟩, 20) := ⟨⟨by decide +kernel, by decide +kernel⟩, lw_t1 (List.mem_of_getElem? (i := 4) rfl), lw_t1 (List.mem_of_getElem? (i := 144) rfl), lw_t1 (List.mem_of_getElem? (i := 145) rfl)⟩
theorem lw_p14 : lw_okq (⟨"LoadStoreQueue", "takeEffect", "()V"⟩, 20) := ⟨⟨by decide +kernel, by decide +kernel⟩, lw_t1 (List.mem_of_getElem? (i := 4) rfl), lw_t1 (List.mem_of_getElem? (i := 148) rfl), lw_t1 (List.mem_of_getElem? (i := 149) rfl)⟩
theorem lw_p15 : lw_okq (⟨"LoadStoreQueueModel", "isRegister", "(I)Z"⟩, 9) := ⟨⟨by decide +kernel, by decide +kernel⟩, lw_t1 (List.mem_of_getElem? (i := 176) rfl), lw_t1 (List.mem_of_getElem? (i := 215) rfl), lw_t1 (List.mem_of_getElem? (i := 216) rfl)⟩
def lw_privs_1 : List (MethodName × Nat) := [(⟨"LoadStoreQueue", "isRegister", "(I)Z"⟩, 20), (⟨"LoadStoreQueue", "findGivers", "()V"⟩, 20), (⟨"LoadStoreQueue", "hasThree", "(I)Z"⟩, 20), (⟨"LoadStoreQueue", "setBack", "(I)V"⟩, 20), (⟨"LoadStoreQueue", "advance", "(I)V"⟩, 20), (⟨"LoadStoreQueue", "roll", "(I)I"⟩, 20), (⟨"LoadStoreQueue", "canStart", "(I)Z"⟩, 20), (⟨"LoadStoreQueue", "isThere", "(I)Z"⟩, 20), (⟨"LoadStoreQueue", "finishLoad", "(I)V"⟩, 20), (⟨"LoadStoreQueue", "addressOf", "(I)I"⟩, 20), (⟨"LoadStoreQueue", "valueFrom", "(II)I"⟩, 20), (⟨"LoadStoreQueue", "finishStore", "(I)V"⟩, 20), (⟨"LoadStoreQueue", "catchEarly", "(II)V"⟩, 20), (⟨"LoadStoreQueue", "finishPlain", "(I)V"⟩, 20), (⟨"LoadStoreQueue", "takeEffect", "()V"⟩, 20), (⟨"LoadStoreQueueModel", "isRegister", "(I)Z"⟩, 9)]
theorem lw_r1 : ∀ q ∈ lw_privs_1, lw_okq q := List.forall_mem_cons.mpr ⟨lw_p0, List.forall_mem_cons.mpr ⟨lw_p1, List.forall_mem_cons.mpr ⟨lw_p2, List.forall_mem_cons.mpr ⟨lw_p3, List.forall_mem_cons.mpr ⟨lw_p4, List.forall_mem_cons.mpr ⟨lw_p5, List.forall_mem_cons.mpr ⟨lw_p6, List.forall_mem_cons.mpr ⟨lw_p7, List.forall_mem_cons.mpr ⟨lw_p8, List.forall_mem_cons.mpr ⟨lw_p9, List.forall_mem_cons.mpr ⟨lw_p10, List.forall_mem_cons.mpr ⟨lw_p11, List.forall_mem_cons.mpr ⟨lw_p12, List.forall_mem_cons.mpr ⟨lw_p13, List.forall_mem_cons.mpr ⟨lw_p14, List.forall_mem_cons.mpr ⟨lw_p15, fun _ h => absurd h List.not_mem_nil⟩⟩⟩⟩⟩⟩⟩⟩⟩⟩⟩⟩⟩⟩⟩⟩
theorem lw_p16 : lw_okq (⟨"LoadStoreQueueModel", "execute", "(I)V"⟩, 9) := ⟨⟨by decide +kernel, by decide +kernel⟩, lw_t1 (List.mem_of_getElem? (i := 176) rfl), lw_t1 (List.mem_of_getElem? (i := 231) rfl), lw_t1 (List.mem_of_getElem? (i := 232) rfl)⟩
theorem lw_p17 : lw_okq (⟨"LoadStoreQueueModel", "result", "(I)I"⟩, 9) := ⟨⟨by decide +kernel, by decide +kernel⟩, lw_t1 (List.mem_of_getElem? (i := 176) rfl), lw_t1 (List.mem_of_getElem? (i := 235) rfl), lw_t1 (List.mem_of_getElem? (i := 236) rfl)⟩
def lw_privs_2 : List (MethodName × Nat) := [(⟨"LoadStoreQueueModel", "execute", "(I)V"⟩, 9), (⟨"LoadStoreQueueModel", "result", "(I)I"⟩, 9)]
theorem lw_r2 : ∀ q ∈ lw_privs_2, lw_okq q := List.forall_mem_cons.mpr ⟨lw_p16, List.forall_mem_cons.mpr ⟨lw_p17, fun _ h => absurd h List.not_mem_nil⟩⟩
def lw_privs : List (MethodName × Nat) := lw_privs_1 ++ (lw_privs_2)
def lw_tbl : List Cond := k2_sels lw_privs ++ tables_1
theorem lw_privs_ok : ∀ q ∈ lw_privs, lw_okq q := by
  show ∀ q ∈ lw_privs_1 ++ (lw_privs_2), lw_okq q
  exact List.forall_mem_append.mpr ⟨lw_r1, lw_r2⟩
-- ===== ONE list of words for every method: the tables' words that hold all through a run =====
def lw_all : List Cond := lw_tbl.filter goodWord
/-- a word of the tables by its place: claim/WORDS.tsv -/
theorem lw_w {w : Cond} (i : Nat) (h : lw_tbl[i]? = some w) (g : goodWord w = true) : w ∈ lw_all := List.mem_filter.mpr ⟨List.mem_of_getElem? h, g⟩
theorem lw_all_tbl {w : Cond} (h : w ∈ lw_all) : w ∈ lw_tbl := (List.mem_filter.mp h).1
theorem lw_self : GoodIn lw_all lw_all := fun w h => ⟨h, good_of_word (List.mem_filter.mp h).2⟩
/-- a class's field words, by their places -/
theorem lw_in (ws : List Cond) (ps : List Nat) (hp : ws = ps.filterMap (fun i => lw_tbl[i]?)) (hg : ws.all goodWord = true) : ∀ w ∈ ws, w ∈ lw_all := by
  intro w h
  have h1 := List.all_eq_true.mp hg w h
  rw [hp] at h
  obtain ⟨i, -, hi⟩ := List.mem_filterMap.mp h
  exact lw_w i hi h1
/-- the words of a contract for the method y with code b, L locals, answer r -/
abbrev ws_ (y : MethodName) (b : ByteArray) (L : Nat) (r : Option FieldType) : List Cond := Cond.code y b L r :: lw_all
theorem lw_meth {y : MethodName} {b : ByteArray} {L : Nat} {r : Option FieldType} (h : Cond.code y b L r ∈ lw_all) : GoodIn lw_all (ws_ y b L r) := by
  intro w hw
  rcases List.mem_cons.mp hw with e | e
  · rw [e]
    exact lw_self _ h
  · exact lw_self _ e
theorem lw_app {a c : List Cond} (ha : ∀ w ∈ a, w ∈ lw_all) (hc : GoodIn lw_all c) : GoodIn lw_all (a ++ c) := by
  intro w hw
  rcases List.mem_append.mp hw with e | e
  · exact lw_self w (ha w e)
  · exact hc w e
/-- what a call through an object asks: cwV n hts (lw_V ..) -/
theorem lw_V {own : String} {idx : Nat} {C : String} {y : MethodName} {b : ByteArray} {L : Nat} {r : Option FieldType} (h1 : Cond.methodLink own idx y ∈ lw_all) (h2 : Cond.instanceMethod y ∈ lw_all) (h3 : Cond.selects C y y ∈ lw_all) (h4 : Cond.initialized C ∈ lw_all) (h5 : Cond.code y b L r ∈ lw_all) : GoodIn lw_all (wsV own idx C y (ws_ y b L r)) := by
  refine lw_app ?_ (lw_meth h5)
  intro w hw
  simp only [List.mem_cons, List.not_mem_nil, or_false] at hw
  rcases hw with e | e | e | e
  · rw [e]; exact h1
  · rw [e]; exact h2
  · rw [e]; exact h3
  · rw [e]; exact h4
/-- what a static call asks: va_cwS n hts (lw_S ..) -/
theorem lw_S {own : String} {idx : Nat} {y : MethodName} {b : ByteArray} {L : Nat} {r : Option FieldType} (h1 : Cond.methodLink own idx y ∈ lw_all) (h2 : Cond.static y ∈ lw_all) (h3 : Cond.initialized y.cls ∈ lw_all) (h4 : Cond.code y b L r ∈ lw_all) : GoodIn lw_all (va_wsS own idx y (ws_ y b L r)) := by
  refine lw_app ?_ (lw_meth h4)
  intro w hw
  simp only [List.mem_cons, List.not_mem_nil, or_false] at hw
  rcases hw with e | e | e
  · rw [e]; exact h1
  · rw [e]; exact h2
  · rw [e]; exact h3
/-- the words of a contract for a method WITH HANDLERS (hh: its table) -/
abbrev wsW_ (y : MethodName) (b : ByteArray) (L : Nat) (r : Option FieldType) (hh : List (Nat × Nat × Nat × Nat)) : List Cond := Cond.codeWith y b L r hh :: lw_all
theorem lw_methW {y : MethodName} {b : ByteArray} {L : Nat} {r : Option FieldType} {hh : List (Nat × Nat × Nat × Nat)} (h : Cond.codeWith y b L r hh ∈ lw_all) : GoodIn lw_all (wsW_ y b L r hh) := by
  intro w hw
  rcases List.mem_cons.mp hw with e | e
  · rw [e]
    exact lw_self _ h
  · exact lw_self _ e
/-- any list of words by their places (lw_in), good -/
theorem lw_good {ws : List Cond} (h : ∀ w ∈ ws, w ∈ lw_all) : GoodIn lw_all ws := fun w hw => lw_self w (h w hw)
/-- what a call of a method with handlers asks: vx_cwVW n hts (lw_VW ..), vx_cwSW n hts (lw_SW ..) -/
theorem lw_VW {own : String} {idx : Nat} {C : String} {y : MethodName} {b : ByteArray} {L : Nat} {r : Option FieldType} {hh : List (Nat × Nat × Nat × Nat)} (h1 : Cond.methodLink own idx y ∈ lw_all) (h2 : Cond.instanceMethod y ∈ lw_all) (h3 : Cond.selects C y y ∈ lw_all) (h4 : Cond.initialized C ∈ lw_all) (h5 : Cond.codeWith y b L r hh ∈ lw_all) : GoodIn lw_all (wsV own idx C y (wsW_ y b L r hh)) := by
  refine lw_app ?_ (lw_methW h5)
  intro w hw
  simp only [List.mem_cons, List.not_mem_nil, or_false] at hw
  rcases hw with e | e | e | e
  · rw [e]; exact h1
  · rw [e]; exact h2
  · rw [e]; exact h3
  · rw [e]; exact h4
theorem lw_SW {own : String} {idx : Nat} {y : MethodName} {b : ByteArray} {L : Nat} {r : Option FieldType} {hh : List (Nat × Nat × Nat × Nat)} (h1 : Cond.methodLink own idx y ∈ lw_all) (h2 : Cond.static y ∈ lw_all) (h3 : Cond.initialized y.cls ∈ lw_all) (h4 : Cond.codeWith y b L r hh ∈ lw_all) : GoodIn lw_all (va_wsS own idx y (wsW_ y b L r hh)) := by
  refine lw_app ?_ (lw_methW h4)
  intro w hw
  simp only [List.mem_cons, List.not_mem_nil, or_false] at hw
  rcases hw with e | e | e
  · rw [e]; exact h1
  · rw [e]; exact h2
  · rw [e]; exact h3
/-- a word by its place in its run of the tables -/
theorem lw_at {r : List Cond} (hr : ∀ w ∈ r, w ∈ lw_tbl) {w : Cond} (i : Nat) (h : r[i]? = some w) : w ∈ lw_tbl := hr w (List.mem_of_getElem? h)
theorem lw_g {w : Cond} (h : w ∈ lw_tbl) (g : goodWord w = true) : w ∈ lw_all := List.mem_filter.mpr ⟨h, g⟩
theorem lw_ms : ∀ w ∈ k2_sels lw_privs, w ∈ lw_tbl := fun w h => show w ∈ k2_sels lw_privs ++ tables_1 from List.mem_append_left _ h
theorem lw_m1 : ∀ w ∈ tables_1_1, w ∈ lw_tbl := fun w h => show w ∈ k2_sels lw_privs ++ tables_1 from List.mem_append_right (k2_sels lw_privs) (show w ∈ tables_1 from List.mem_append_left _ h)
theorem lw_m2 : ∀ w ∈ tables_1_2, w ∈ lw_tbl := fun w h => show w ∈ k2_sels lw_privs ++ tables_1 from List.mem_append_right (k2_sels lw_privs) (show w ∈ tables_1 from List.mem_append_right _ h)
theorem qs0 : (Cond.selects "LoadStoreQueue" ⟨"LoadStoreQueue", "isRegister", "(I)Z"⟩ ⟨"LoadStoreQueue", "isRegister", "(I)Z"⟩) ∈ lw_all := lw_g (lw_at lw_ms 0 rfl) rfl
theorem qs1 : (Cond.selects "LoadStoreQueue" ⟨"LoadStoreQueue", "findGivers", "()V"⟩ ⟨"LoadStoreQueue", "findGivers", "()V"⟩) ∈ lw_all := lw_g (lw_at lw_ms 1 rfl) rfl
theorem qs2 : (Cond.selects "LoadStoreQueue" ⟨"LoadStoreQueue", "hasThree", "(I)Z"⟩ ⟨"LoadStoreQueue", "hasThree", "(I)Z"⟩) ∈ lw_all := lw_g (lw_at lw_ms 2 rfl) rfl
theorem qs3 : (Cond.selects "LoadStoreQueue" ⟨"LoadStoreQueue", "setBack", "(I)V"⟩ ⟨"LoadStoreQueue", "setBack", "(I)V"⟩) ∈ lw_all := lw_g (lw_at lw_ms 3 rfl) rfl
theorem qs4 : (Cond.selects "LoadStoreQueue" ⟨"LoadStoreQueue", "advance", "(I)V"⟩ ⟨"LoadStoreQueue", "advance", "(I)V"⟩) ∈ lw_all := lw_g (lw_at lw_ms 4 rfl) rfl
theorem qs5 : (Cond.selects "LoadStoreQueue" ⟨"LoadStoreQueue", "roll", "(I)I"⟩ ⟨"LoadStoreQueue", "roll", "(I)I"⟩) ∈ lw_all := lw_g (lw_at lw_ms 5 rfl) rfl
theorem qs6 : (Cond.selects "LoadStoreQueue" ⟨"LoadStoreQueue", "canStart", "(I)Z"⟩ ⟨"LoadStoreQueue", "canStart", "(I)Z"⟩) ∈ lw_all := lw_g (lw_at lw_ms 6 rfl) rfl
theorem qs7 : (Cond.selects "LoadStoreQueue" ⟨"LoadStoreQueue", "isThere", "(I)Z"⟩ ⟨"LoadStoreQueue", "isThere", "(I)Z"⟩) ∈ lw_all := lw_g (lw_at lw_ms 7 rfl) rfl
theorem qs8 : (Cond.selects "LoadStoreQueue" ⟨"LoadStoreQueue", "finishLoad", "(I)V"⟩ ⟨"LoadStoreQueue", "finishLoad", "(I)V"⟩) ∈ lw_all := lw_g (lw_at lw_ms 8 rfl) rfl
theorem qs9 : (Cond.selects "LoadStoreQueue" ⟨"LoadStoreQueue", "addressOf", "(I)I"⟩ ⟨"LoadStoreQueue", "addressOf", "(I)I"⟩) ∈ lw_all := lw_g (lw_at lw_ms 9 rfl) rfl
theorem qs10 : (Cond.selects "LoadStoreQueue" ⟨"LoadStoreQueue", "valueFrom", "(II)I"⟩ ⟨"LoadStoreQueue", "valueFrom", "(II)I"⟩) ∈ lw_all := lw_g (lw_at lw_ms 10 rfl) rfl
theorem qs11 : (Cond.selects "LoadStoreQueue" ⟨"LoadStoreQueue", "finishStore", "(I)V"⟩ ⟨"LoadStoreQueue", "finishStore", "(I)V"⟩) ∈ lw_all := lw_g (lw_at lw_ms 11 rfl) rfl
theorem qs12 : (Cond.selects "LoadStoreQueue" ⟨"LoadStoreQueue", "catchEarly", "(II)V"⟩ ⟨"LoadStoreQueue", "catchEarly", "(II)V"⟩) ∈ lw_all := lw_g (lw_at lw_ms 12 rfl) rfl
theorem qs13 : (Cond.selects "LoadStoreQueue" ⟨"LoadStoreQueue", "finishPlain", "(I)V"⟩ ⟨"LoadStoreQueue", "finishPlain", "(I)V"⟩) ∈ lw_all := lw_g (lw_at lw_ms 13 rfl) rfl
theorem qs14 : (Cond.selects "LoadStoreQueue" ⟨"LoadStoreQueue", "takeEffect", "()V"⟩ ⟨"LoadStoreQueue", "takeEffect", "()V"⟩) ∈ lw_all := lw_g (lw_at lw_ms 14 rfl) rfl
theorem qs15 : (Cond.selects "LoadStoreQueueModel" ⟨"LoadStoreQueueModel", "isRegister", "(I)Z"⟩ ⟨"LoadStoreQueueModel", "isRegister", "(I)Z"⟩) ∈ lw_all := lw_g (lw_at lw_ms 15 rfl) rfl
theorem qs16 : (Cond.selects "LoadStoreQueueModel" ⟨"LoadStoreQueueModel", "execute", "(I)V"⟩ ⟨"LoadStoreQueueModel", "execute", "(I)V"⟩) ∈ lw_all := lw_g (lw_at lw_ms 16 rfl) rfl
theorem qs17 : (Cond.selects "LoadStoreQueueModel" ⟨"LoadStoreQueueModel", "result", "(I)I"⟩ ⟨"LoadStoreQueueModel", "result", "(I)I"⟩) ∈ lw_all := lw_g (lw_at lw_ms 17 rfl) rfl
end
section
set_option maxRecDepth 100000
/-! LoadStoreQueue -/
def RX0 : String := "LoadStoreQueue"
def TX0 : u_T := fun k => match k with
  | 0 => ("LoadStoreQueue", "length", "I", false)
  | 1 => ("LoadStoreQueue", "opcode", "[B", true)
  | 2 => ("LoadStoreQueue", "fieldX", "[B", true)
  | 3 => ("LoadStoreQueue", "fieldY", "[I", true)
  | 4 => ("LoadStoreQueue", "fieldZ", "[I", true)
  | 5 => ("LoadStoreQueue", "registers", "[I", true)
  | 6 => ("LoadStoreQueue", "cells", "[I", true)
  | 7 => ("LoadStoreQueue", "fedCount", "I", false)
  | 8 => ("LoadStoreQueue", "writtenCells", "I", false)
  | 9 => ("LoadStoreQueue", "giverX", "[B", true)
  | 10 => ("LoadStoreQueue", "giverY", "[B", true)
  | 11 => ("LoadStoreQueue", "giverZ", "[B", true)
  | 12 => ("LoadStoreQueue", "lastWriter", "[B", true)
  | 13 => ("LoadStoreQueue", "progress", "[B", true)
  | 14 => ("LoadStoreQueue", "ticks", "[B", true)
  | 15 => ("LoadStoreQueue", "result", "[I", true)
  | 16 => ("LoadStoreQueue", "cellOf", "[B", true)
  | 17 => ("LoadStoreQueue", "source", "[B", true)
  | 18 => ("LoadStoreQueue", "head", "I", false)
  | _ => ("LoadStoreQueue", "chance", "I", false)
def tyX0 : Nat → FieldType := fun k => match k with
  | 0 => .int
  | 1 => .array .byte
  | 2 => .array .byte
  | 3 => .array .int
  | 4 => .array .int
  | 5 => .array .int
  | 6 => .array .int
  | 7 => .int
  | 8 => .int
  | 9 => .array .byte
  | 10 => .array .byte
  | 11 => .array .byte
  | 12 => .array .byte
  | 13 => .array .byte
  | 14 => .array .byte
  | 15 => .array .int
  | 16 => .array .byte
  | 17 => .array .byte
  | 18 => .int
  | _ => .int
abbrev wsX00 : List Cond := u_ws RX0 TX0 20
set_option maxRecDepth 100000 in
theorem nmX0 : ∀ a, a < 20 → ∀ b, b < 20 → a ≠ b → (TX0 a).2.1 ≠ (TX0 b).2.1 := by decide +kernel
set_option maxRecDepth 100000 in
theorem tyX0_ok : ∀ k, k < 20 → parseFieldDescriptor (TX0 k).2.2.1 = some (tyX0 k) := by decide +kernel
abbrev cX0_init : ByteArray := prog_1_method_1_code
def yX0_init : MethodName := ⟨RX0, "<init>", "()V"⟩
abbrev cX0_emit : ByteArray := prog_1_method_2_code
def yX0_emit : MethodName := ⟨RX0, "emit", "(IIII)I"⟩
abbrev cX0_isRegister : ByteArray := prog_1_method_12_code
def yX0_isRegister : MethodName := ⟨RX0, "isRegister", "(I)Z"⟩
abbrev cX0_retract : ByteArray := prog_1_method_3_code
def yX0_retract : MethodName := ⟨RX0, "retract", "()I"⟩
abbrev cX0_drop : ByteArray := prog_1_method_4_code
def yX0_drop : MethodName := ⟨RX0, "drop", "()I"⟩
abbrev cX0_run : ByteArray := prog_1_method_5_code
def yX0_run : MethodName := ⟨RX0, "run", "(I)I"⟩
abbrev cX0_findGivers : ByteArray := prog_1_method_13_code
def yX0_findGivers : MethodName := ⟨RX0, "findGivers", "()V"⟩
abbrev cX0_hasThree : ByteArray := prog_1_method_14_code
def yX0_hasThree : MethodName := ⟨RX0, "hasThree", "(I)Z"⟩
abbrev cX0_setBack : ByteArray := prog_1_method_18_code
def yX0_setBack : MethodName := ⟨RX0, "setBack", "(I)V"⟩
abbrev cX0_advance : ByteArray := prog_1_method_19_code
def yX0_advance : MethodName := ⟨RX0, "advance", "(I)V"⟩
abbrev cX0_roll : ByteArray := prog_1_method_17_code
def yX0_roll : MethodName := ⟨RX0, "roll", "(I)I"⟩
abbrev cX0_canStart : ByteArray := prog_1_method_20_code
def yX0_canStart : MethodName := ⟨RX0, "canStart", "(I)Z"⟩
abbrev cX0_isThere : ByteArray := prog_1_method_15_code
def yX0_isThere : MethodName := ⟨RX0, "isThere", "(I)Z"⟩
abbrev cX0_finishLoad : ByteArray := prog_1_method_23_code
def yX0_finishLoad : MethodName := ⟨RX0, "finishLoad", "(I)V"⟩
abbrev cX0_addressOf : ByteArray := prog_1_method_22_code
def yX0_addressOf : MethodName := ⟨RX0, "addressOf", "(I)I"⟩
abbrev cX0_valueFrom : ByteArray := prog_1_method_16_code
def yX0_valueFrom : MethodName := ⟨RX0, "valueFrom", "(II)I"⟩
abbrev cX0_finishStore : ByteArray := prog_1_method_24_code
def yX0_finishStore : MethodName := ⟨RX0, "finishStore", "(I)V"⟩
abbrev cX0_catchEarly : ByteArray := prog_1_method_25_code
def yX0_catchEarly : MethodName := ⟨RX0, "catchEarly", "(II)V"⟩
abbrev cX0_finishPlain : ByteArray := prog_1_method_21_code
def yX0_finishPlain : MethodName := ⟨RX0, "finishPlain", "(I)V"⟩
abbrev cX0_takeEffect : ByteArray := prog_1_method_26_code
def yX0_takeEffect : MethodName := ⟨RX0, "takeEffect", "()V"⟩
abbrev cX0_fed : ByteArray := prog_1_method_6_code
def yX0_fed : MethodName := ⟨RX0, "fed", "()I"⟩
abbrev cX0_written : ByteArray := prog_1_method_7_code
def yX0_written : MethodName := ⟨RX0, "written", "()I"⟩
abbrev cX0_register : ByteArray := prog_1_method_8_code
def yX0_register : MethodName := ⟨RX0, "register", "(I)I"⟩
abbrev cX0_setRegister : ByteArray := prog_1_method_9_code
def yX0_setRegister : MethodName := ⟨RX0, "setRegister", "(II)Z"⟩
abbrev cX0_memory : ByteArray := prog_1_method_10_code
def yX0_memory : MethodName := ⟨RX0, "memory", "(I)I"⟩
abbrev cX0_setMemory : ByteArray := prog_1_method_11_code
def yX0_setMemory : MethodName := ⟨RX0, "setMemory", "(II)Z"⟩
theorem q19 : (Jvm.Cond.initialized "LoadStoreQueue") ∈ lw_all := lw_g (lw_at lw_m1 1 rfl) rfl
theorem q22 : (Jvm.Cond.instantiable "LoadStoreQueue" (20 : Nat)) ∈ lw_all := lw_g (lw_at lw_m1 4 rfl) rfl
theorem q24 : (Jvm.Cond.instanceMethod ({ cls := "LoadStoreQueue", name := "<init>", desc := "()V" } : Jvm.MethodName)) ∈ lw_all := lw_g (lw_at lw_m1 6 rfl) rfl
theorem q25 : (Jvm.Cond.code ({ cls := "LoadStoreQueue", name := "<init>", desc := "()V" } : Jvm.MethodName) prog_1_method_1_code (1 : Nat) (Option.none : Option Jvm.ClassFile.FieldType)) ∈ lw_all := lw_g (lw_at lw_m1 7 rfl) rfl
theorem q26 : (Jvm.Cond.methodLink "LoadStoreQueue" (1 : Nat) ({ cls := "java/lang/Object", name := "<init>", desc := "()V" } : Jvm.MethodName)) ∈ lw_all := lw_g (lw_at lw_m1 8 rfl) rfl
theorem q29 : (Jvm.Cond.fieldLink "LoadStoreQueue" (56 : Nat) "LoadStoreQueue" "length" "I") ∈ lw_all := lw_g (lw_at lw_m1 11 rfl) rfl
theorem q30 : (Jvm.Cond.fieldLink "LoadStoreQueue" (7 : Nat) "LoadStoreQueue" "opcode" "[B") ∈ lw_all := lw_g (lw_at lw_m1 12 rfl) rfl
theorem q31 : (Jvm.Cond.fieldLink "LoadStoreQueue" (13 : Nat) "LoadStoreQueue" "fieldX" "[B") ∈ lw_all := lw_g (lw_at lw_m1 13 rfl) rfl
theorem q32 : (Jvm.Cond.fieldLink "LoadStoreQueue" (16 : Nat) "LoadStoreQueue" "fieldY" "[I") ∈ lw_all := lw_g (lw_at lw_m1 14 rfl) rfl
theorem q33 : (Jvm.Cond.fieldLink "LoadStoreQueue" (20 : Nat) "LoadStoreQueue" "fieldZ" "[I") ∈ lw_all := lw_g (lw_at lw_m1 15 rfl) rfl
theorem q34 : (Jvm.Cond.fieldLink "LoadStoreQueue" (23 : Nat) "LoadStoreQueue" "registers" "[I") ∈ lw_all := lw_g (lw_at lw_m1 16 rfl) rfl
theorem q35 : (Jvm.Cond.fieldLink "LoadStoreQueue" (26 : Nat) "LoadStoreQueue" "cells" "[I") ∈ lw_all := lw_g (lw_at lw_m1 17 rfl) rfl
theorem q36 : (Jvm.Cond.fieldLink "LoadStoreQueue" (67 : Nat) "LoadStoreQueue" "fedCount" "I") ∈ lw_all := lw_g (lw_at lw_m1 18 rfl) rfl
theorem q37 : (Jvm.Cond.fieldLink "LoadStoreQueue" (70 : Nat) "LoadStoreQueue" "writtenCells" "I") ∈ lw_all := lw_g (lw_at lw_m1 19 rfl) rfl
theorem q38 : (Jvm.Cond.fieldLink "LoadStoreQueue" (29 : Nat) "LoadStoreQueue" "giverX" "[B") ∈ lw_all := lw_g (lw_at lw_m1 20 rfl) rfl
theorem q39 : (Jvm.Cond.fieldLink "LoadStoreQueue" (32 : Nat) "LoadStoreQueue" "giverY" "[B") ∈ lw_all := lw_g (lw_at lw_m1 21 rfl) rfl
theorem q40 : (Jvm.Cond.fieldLink "LoadStoreQueue" (35 : Nat) "LoadStoreQueue" "giverZ" "[B") ∈ lw_all := lw_g (lw_at lw_m1 22 rfl) rfl
theorem q41 : (Jvm.Cond.fieldLink "LoadStoreQueue" (38 : Nat) "LoadStoreQueue" "lastWriter" "[B") ∈ lw_all := lw_g (lw_at lw_m1 23 rfl) rfl
theorem q42 : (Jvm.Cond.fieldLink "LoadStoreQueue" (41 : Nat) "LoadStoreQueue" "progress" "[B") ∈ lw_all := lw_g (lw_at lw_m1 24 rfl) rfl
theorem q43 : (Jvm.Cond.fieldLink "LoadStoreQueue" (44 : Nat) "LoadStoreQueue" "ticks" "[B") ∈ lw_all := lw_g (lw_at lw_m1 25 rfl) rfl
theorem q44 : (Jvm.Cond.fieldLink "LoadStoreQueue" (47 : Nat) "LoadStoreQueue" "result" "[I") ∈ lw_all := lw_g (lw_at lw_m1 26 rfl) rfl
theorem q45 : (Jvm.Cond.fieldLink "LoadStoreQueue" (50 : Nat) "LoadStoreQueue" "cellOf" "[B") ∈ lw_all := lw_g (lw_at lw_m1 27 rfl) rfl
theorem q46 : (Jvm.Cond.fieldLink "LoadStoreQueue" (53 : Nat) "LoadStoreQueue" "source" "[B") ∈ lw_all := lw_g (lw_at lw_m1 28 rfl) rfl
theorem q47 : (Jvm.Cond.fieldLink "LoadStoreQueue" (80 : Nat) "LoadStoreQueue" "head" "I") ∈ lw_all := lw_g (lw_at lw_m1 29 rfl) rfl
theorem q48 : (Jvm.Cond.fieldLink "LoadStoreQueue" (64 : Nat) "LoadStoreQueue" "chance" "I") ∈ lw_all := lw_g (lw_at lw_m1 30 rfl) rfl
theorem q49 : (Jvm.Cond.lays "LoadStoreQueue" "LoadStoreQueue" "length" "I") ∈ lw_all := lw_g (lw_at lw_m1 31 rfl) rfl
theorem q50 : (Jvm.Cond.soleField "LoadStoreQueue" "length") ∈ lw_all := lw_g (lw_at lw_m1 32 rfl) rfl
theorem q51 : (Jvm.Cond.laysFinal "LoadStoreQueue" "LoadStoreQueue" "opcode" "[B") ∈ lw_all := lw_g (lw_at lw_m1 33 rfl) rfl
theorem q52 : (Jvm.Cond.soleField "LoadStoreQueue" "opcode") ∈ lw_all := lw_g (lw_at lw_m1 34 rfl) rfl
theorem q53 : (Jvm.Cond.laysFinal "LoadStoreQueue" "LoadStoreQueue" "fieldX" "[B") ∈ lw_all := lw_g (lw_at lw_m1 35 rfl) rfl
theorem q54 : (Jvm.Cond.soleField "LoadStoreQueue" "fieldX") ∈ lw_all := lw_g (lw_at lw_m1 36 rfl) rfl
theorem q55 : (Jvm.Cond.laysFinal "LoadStoreQueue" "LoadStoreQueue" "fieldY" "[I") ∈ lw_all := lw_g (lw_at lw_m1 37 rfl) rfl
theorem q56 : (Jvm.Cond.soleField "LoadStoreQueue" "fieldY") ∈ lw_all := lw_g (lw_at lw_m1 38 rfl) rfl
theorem q57 : (Jvm.Cond.laysFinal "LoadStoreQueue" "LoadStoreQueue" "fieldZ" "[I") ∈ lw_all := lw_g (lw_at lw_m1 39 rfl) rfl
theorem q58 : (Jvm.Cond.soleField "LoadStoreQueue" "fieldZ") ∈ lw_all := lw_g (lw_at lw_m1 40 rfl) rfl
theorem q59 : (Jvm.Cond.laysFinal "LoadStoreQueue" "LoadStoreQueue" "registers" "[I") ∈ lw_all := lw_g (lw_at lw_m1 41 rfl) rfl
theorem q60 : (Jvm.Cond.soleField "LoadStoreQueue" "registers") ∈ lw_all := lw_g (lw_at lw_m1 42 rfl) rfl
theorem q61 : (Jvm.Cond.laysFinal "LoadStoreQueue" "LoadStoreQueue" "cells" "[I") ∈ lw_all := lw_g (lw_at lw_m1 43 rfl) rfl
theorem q62 : (Jvm.Cond.soleField "LoadStoreQueue" "cells") ∈ lw_all := lw_g (lw_at lw_m1 44 rfl) rfl
theorem q63 : (Jvm.Cond.lays "LoadStoreQueue" "LoadStoreQueue" "fedCount" "I") ∈ lw_all := lw_g (lw_at lw_m1 45 rfl) rfl
theorem q64 : (Jvm.Cond.soleField "LoadStoreQueue" "fedCount") ∈ lw_all := lw_g (lw_at lw_m1 46 rfl) rfl
theorem q65 : (Jvm.Cond.lays "LoadStoreQueue" "LoadStoreQueue" "writtenCells" "I") ∈ lw_all := lw_g (lw_at lw_m1 47 rfl) rfl
theorem q66 : (Jvm.Cond.soleField "LoadStoreQueue" "writtenCells") ∈ lw_all := lw_g (lw_at lw_m1 48 rfl) rfl
theorem q67 : (Jvm.Cond.laysFinal "LoadStoreQueue" "LoadStoreQueue" "giverX" "[B") ∈ lw_all := lw_g (lw_at lw_m1 49 rfl) rfl
theorem q68 : (Jvm.Cond.soleField "LoadStoreQueue" "giverX") ∈ lw_all := lw_g (lw_at lw_m1 50 rfl) rfl
theorem q69 : (Jvm.Cond.laysFinal "LoadStoreQueue" "LoadStoreQueue" "giverY" "[B") ∈ lw_all := lw_g (lw_at lw_m1 51 rfl) rfl
theorem q70 : (Jvm.Cond.soleField "LoadStoreQueue" "giverY") ∈ lw_all := lw_g (lw_at lw_m1 52 rfl) rfl
theorem q71 : (Jvm.Cond.laysFinal "LoadStoreQueue" "LoadStoreQueue" "giverZ" "[B") ∈ lw_all := lw_g (lw_at lw_m1 53 rfl) rfl
theorem q72 : (Jvm.Cond.soleField "LoadStoreQueue" "giverZ") ∈ lw_all := lw_g (lw_at lw_m1 54 rfl) rfl
theorem q73 : (Jvm.Cond.laysFinal "LoadStoreQueue" "LoadStoreQueue" "lastWriter" "[B") ∈ lw_all := lw_g (lw_at lw_m1 55 rfl) rfl
theorem q74 : (Jvm.Cond.soleField "LoadStoreQueue" "lastWriter") ∈ lw_all := lw_g (lw_at lw_m1 56 rfl) rfl
theorem q75 : (Jvm.Cond.laysFinal "LoadStoreQueue" "LoadStoreQueue" "progress" "[B") ∈ lw_all := lw_g (lw_at lw_m1 57 rfl) rfl
theorem q76 : (Jvm.Cond.soleField "LoadStoreQueue" "progress") ∈ lw_all := lw_g (lw_at lw_m1 58 rfl) rfl
theorem q77 : (Jvm.Cond.laysFinal "LoadStoreQueue" "LoadStoreQueue" "ticks" "[B") ∈ lw_all := lw_g (lw_at lw_m1 59 rfl) rfl
theorem q78 : (Jvm.Cond.soleField "LoadStoreQueue" "ticks") ∈ lw_all := lw_g (lw_at lw_m1 60 rfl) rfl
theorem q79 : (Jvm.Cond.laysFinal "LoadStoreQueue" "LoadStoreQueue" "result" "[I") ∈ lw_all := lw_g (lw_at lw_m1 61 rfl) rfl
theorem q80 : (Jvm.Cond.soleField "LoadStoreQueue" "result") ∈ lw_all := lw_g (lw_at lw_m1 62 rfl) rfl
theorem q81 : (Jvm.Cond.laysFinal "LoadStoreQueue" "LoadStoreQueue" "cellOf" "[B") ∈ lw_all := lw_g (lw_at lw_m1 63 rfl) rfl
theorem q82 : (Jvm.Cond.soleField "LoadStoreQueue" "cellOf") ∈ lw_all := lw_g (lw_at lw_m1 64 rfl) rfl
theorem q83 : (Jvm.Cond.laysFinal "LoadStoreQueue" "LoadStoreQueue" "source" "[B") ∈ lw_all := lw_g (lw_at lw_m1 65 rfl) rfl
theorem q84 : (Jvm.Cond.soleField "LoadStoreQueue" "source") ∈ lw_all := lw_g (lw_at lw_m1 66 rfl) rfl
theorem q85 : (Jvm.Cond.lays "LoadStoreQueue" "LoadStoreQueue" "head" "I") ∈ lw_all := lw_g (lw_at lw_m1 67 rfl) rfl
theorem q86 : (Jvm.Cond.soleField "LoadStoreQueue" "head") ∈ lw_all := lw_g (lw_at lw_m1 68 rfl) rfl
theorem q87 : (Jvm.Cond.lays "LoadStoreQueue" "LoadStoreQueue" "chance" "I") ∈ lw_all := lw_g (lw_at lw_m1 69 rfl) rfl
theorem q88 : (Jvm.Cond.soleField "LoadStoreQueue" "chance") ∈ lw_all := lw_g (lw_at lw_m1 70 rfl) rfl
theorem q89 : (Jvm.Cond.superclass "LoadStoreQueue" "java/lang/Object") ∈ lw_all := lw_g (lw_at lw_m1 71 rfl) rfl
theorem q93 : (Jvm.Cond.instanceMethod ({ cls := "LoadStoreQueue", name := "emit", desc := "(IIII)I" } : Jvm.MethodName)) ∈ lw_all := lw_g (lw_at lw_m1 75 rfl) rfl
theorem q94 : (Jvm.Cond.selects "LoadStoreQueue" ({ cls := "LoadStoreQueue", name := "emit", desc := "(IIII)I" } : Jvm.MethodName) ({ cls := "LoadStoreQueue", name := "emit", desc := "(IIII)I" } : Jvm.MethodName)) ∈ lw_all := lw_g (lw_at lw_m1 76 rfl) rfl
theorem q95 : (Jvm.Cond.code ({ cls := "LoadStoreQueue", name := "emit", desc := "(IIII)I" } : Jvm.MethodName) prog_1_method_2_code (6 : Nat) (Option.some Jvm.ClassFile.FieldType.int)) ∈ lw_all := lw_g (lw_at lw_m1 77 rfl) rfl
theorem q96 : (Jvm.Cond.methodLink "LoadStoreQueue" (60 : Nat) ({ cls := "LoadStoreQueue", name := "isRegister", desc := "(I)Z" } : Jvm.MethodName)) ∈ lw_all := lw_g (lw_at lw_m1 78 rfl) rfl
theorem q97 : (Jvm.Cond.privateMethod ({ cls := "LoadStoreQueue", name := "isRegister", desc := "(I)Z" } : Jvm.MethodName)) ∈ lw_tbl := lw_at lw_m1 79 rfl
theorem q98 : (Jvm.Cond.instanceMethod ({ cls := "LoadStoreQueue", name := "isRegister", desc := "(I)Z" } : Jvm.MethodName)) ∈ lw_all := lw_g (lw_at lw_m1 80 rfl) rfl
theorem q99 : (Jvm.Cond.code ({ cls := "LoadStoreQueue", name := "isRegister", desc := "(I)Z" } : Jvm.MethodName) prog_1_method_12_code (2 : Nat) (Option.some Jvm.ClassFile.FieldType.boolean)) ∈ lw_all := lw_g (lw_at lw_m1 81 rfl) rfl
theorem q101 : (Jvm.Cond.instanceMethod ({ cls := "LoadStoreQueue", name := "retract", desc := "()I" } : Jvm.MethodName)) ∈ lw_all := lw_g (lw_at lw_m1 83 rfl) rfl
theorem q102 : (Jvm.Cond.selects "LoadStoreQueue" ({ cls := "LoadStoreQueue", name := "retract", desc := "()I" } : Jvm.MethodName) ({ cls := "LoadStoreQueue", name := "retract", desc := "()I" } : Jvm.MethodName)) ∈ lw_all := lw_g (lw_at lw_m1 84 rfl) rfl
theorem q103 : (Jvm.Cond.code ({ cls := "LoadStoreQueue", name := "retract", desc := "()I" } : Jvm.MethodName) prog_1_method_3_code (1 : Nat) (Option.some Jvm.ClassFile.FieldType.int)) ∈ lw_all := lw_g (lw_at lw_m1 85 rfl) rfl
theorem q105 : (Jvm.Cond.instanceMethod ({ cls := "LoadStoreQueue", name := "drop", desc := "()I" } : Jvm.MethodName)) ∈ lw_all := lw_g (lw_at lw_m1 87 rfl) rfl
theorem q106 : (Jvm.Cond.selects "LoadStoreQueue" ({ cls := "LoadStoreQueue", name := "drop", desc := "()I" } : Jvm.MethodName) ({ cls := "LoadStoreQueue", name := "drop", desc := "()I" } : Jvm.MethodName)) ∈ lw_all := lw_g (lw_at lw_m1 88 rfl) rfl
theorem q107 : (Jvm.Cond.code ({ cls := "LoadStoreQueue", name := "drop", desc := "()I" } : Jvm.MethodName) prog_1_method_4_code (2 : Nat) (Option.some Jvm.ClassFile.FieldType.int)) ∈ lw_all := lw_g (lw_at lw_m1 89 rfl) rfl
theorem q109 : (Jvm.Cond.instanceMethod ({ cls := "LoadStoreQueue", name := "run", desc := "(I)I" } : Jvm.MethodName)) ∈ lw_all := lw_g (lw_at lw_m1 91 rfl) rfl
theorem q110 : (Jvm.Cond.selects "LoadStoreQueue" ({ cls := "LoadStoreQueue", name := "run", desc := "(I)I" } : Jvm.MethodName) ({ cls := "LoadStoreQueue", name := "run", desc := "(I)I" } : Jvm.MethodName)) ∈ lw_all := lw_g (lw_at lw_m1 92 rfl) rfl
theorem q111 : (Jvm.Cond.code ({ cls := "LoadStoreQueue", name := "run", desc := "(I)I" } : Jvm.MethodName) prog_1_method_5_code (3 : Nat) (Option.some Jvm.ClassFile.FieldType.int)) ∈ lw_all := lw_g (lw_at lw_m1 93 rfl) rfl
theorem q112 : (Jvm.Cond.methodLink "LoadStoreQueue" (73 : Nat) ({ cls := "LoadStoreQueue", name := "findGivers", desc := "()V" } : Jvm.MethodName)) ∈ lw_all := lw_g (lw_at lw_m1 94 rfl) rfl
theorem q113 : (Jvm.Cond.privateMethod ({ cls := "LoadStoreQueue", name := "findGivers", desc := "()V" } : Jvm.MethodName)) ∈ lw_tbl := lw_at lw_m1 95 rfl
theorem q114 : (Jvm.Cond.instanceMethod ({ cls := "LoadStoreQueue", name := "findGivers", desc := "()V" } : Jvm.MethodName)) ∈ lw_all := lw_g (lw_at lw_m1 96 rfl) rfl
theorem q115 : (Jvm.Cond.code ({ cls := "LoadStoreQueue", name := "findGivers", desc := "()V" } : Jvm.MethodName) prog_1_method_13_code (2 : Nat) (Option.none : Option Jvm.ClassFile.FieldType)) ∈ lw_all := lw_g (lw_at lw_m1 97 rfl) rfl
theorem q116 : (Jvm.Cond.methodLink "LoadStoreQueue" (89 : Nat) ({ cls := "LoadStoreQueue", name := "hasThree", desc := "(I)Z" } : Jvm.MethodName)) ∈ lw_all := lw_g (lw_at lw_m1 98 rfl) rfl
theorem q117 : (Jvm.Cond.privateMethod ({ cls := "LoadStoreQueue", name := "hasThree", desc := "(I)Z" } : Jvm.MethodName)) ∈ lw_tbl := lw_at lw_m1 99 rfl
theorem q118 : (Jvm.Cond.instanceMethod ({ cls := "LoadStoreQueue", name := "hasThree", desc := "(I)Z" } : Jvm.MethodName)) ∈ lw_all := lw_g (lw_at lw_m1 100 rfl) rfl
theorem q119 : (Jvm.Cond.code ({ cls := "LoadStoreQueue", name := "hasThree", desc := "(I)Z" } : Jvm.MethodName) prog_1_method_14_code (2 : Nat) (Option.some Jvm.ClassFile.FieldType.boolean)) ∈ lw_all := lw_g (lw_at lw_m1 101 rfl) rfl
theorem q120 : (Jvm.Cond.methodLink "LoadStoreQueue" (76 : Nat) ({ cls := "LoadStoreQueue", name := "setBack", desc := "(I)V" } : Jvm.MethodName)) ∈ lw_all := lw_g (lw_at lw_m1 102 rfl) rfl
theorem q121 : (Jvm.Cond.privateMethod ({ cls := "LoadStoreQueue", name := "setBack", desc := "(I)V" } : Jvm.MethodName)) ∈ lw_tbl := lw_at lw_m1 103 rfl
theorem q122 : (Jvm.Cond.instanceMethod ({ cls := "LoadStoreQueue", name := "setBack", desc := "(I)V" } : Jvm.MethodName)) ∈ lw_all := lw_g (lw_at lw_m1 104 rfl) rfl
theorem q123 : (Jvm.Cond.code ({ cls := "LoadStoreQueue", name := "setBack", desc := "(I)V" } : Jvm.MethodName) prog_1_method_18_code (2 : Nat) (Option.none : Option Jvm.ClassFile.FieldType)) ∈ lw_all := lw_g (lw_at lw_m1 105 rfl) rfl
theorem q124 : (Jvm.Cond.methodLink "LoadStoreQueue" (83 : Nat) ({ cls := "LoadStoreQueue", name := "advance", desc := "(I)V" } : Jvm.MethodName)) ∈ lw_all := lw_g (lw_at lw_m1 106 rfl) rfl
theorem q125 : (Jvm.Cond.privateMethod ({ cls := "LoadStoreQueue", name := "advance", desc := "(I)V" } : Jvm.MethodName)) ∈ lw_tbl := lw_at lw_m1 107 rfl
theorem q126 : (Jvm.Cond.instanceMethod ({ cls := "LoadStoreQueue", name := "advance", desc := "(I)V" } : Jvm.MethodName)) ∈ lw_all := lw_g (lw_at lw_m1 108 rfl) rfl
theorem q127 : (Jvm.Cond.code ({ cls := "LoadStoreQueue", name := "advance", desc := "(I)V" } : Jvm.MethodName) prog_1_method_19_code (4 : Nat) (Option.none : Option Jvm.ClassFile.FieldType)) ∈ lw_all := lw_g (lw_at lw_m1 109 rfl) rfl
theorem q128 : (Jvm.Cond.methodLink "LoadStoreQueue" (93 : Nat) ({ cls := "LoadStoreQueue", name := "roll", desc := "(I)I" } : Jvm.MethodName)) ∈ lw_all := lw_g (lw_at lw_m1 110 rfl) rfl
theorem q129 : (Jvm.Cond.privateMethod ({ cls := "LoadStoreQueue", name := "roll", desc := "(I)I" } : Jvm.MethodName)) ∈ lw_tbl := lw_at lw_m1 111 rfl
theorem q130 : (Jvm.Cond.instanceMethod ({ cls := "LoadStoreQueue", name := "roll", desc := "(I)I" } : Jvm.MethodName)) ∈ lw_all := lw_g (lw_at lw_m1 112 rfl) rfl
theorem q131 : (Jvm.Cond.code ({ cls := "LoadStoreQueue", name := "roll", desc := "(I)I" } : Jvm.MethodName) prog_1_method_17_code (2 : Nat) (Option.some Jvm.ClassFile.FieldType.int)) ∈ lw_all := lw_g (lw_at lw_m1 113 rfl) rfl
theorem q132 : (Jvm.Cond.constant "LoadStoreQueue" (92 : Nat) (1103515245 : Int32)) ∈ lw_all := lw_g (lw_at lw_m1 114 rfl) rfl
theorem q133 : (Jvm.Cond.methodLink "LoadStoreQueue" (97 : Nat) ({ cls := "LoadStoreQueue", name := "canStart", desc := "(I)Z" } : Jvm.MethodName)) ∈ lw_all := lw_g (lw_at lw_m1 115 rfl) rfl
theorem q134 : (Jvm.Cond.privateMethod ({ cls := "LoadStoreQueue", name := "canStart", desc := "(I)Z" } : Jvm.MethodName)) ∈ lw_tbl := lw_at lw_m1 116 rfl
theorem q135 : (Jvm.Cond.instanceMethod ({ cls := "LoadStoreQueue", name := "canStart", desc := "(I)Z" } : Jvm.MethodName)) ∈ lw_all := lw_g (lw_at lw_m1 117 rfl) rfl
theorem q136 : (Jvm.Cond.code ({ cls := "LoadStoreQueue", name := "canStart", desc := "(I)Z" } : Jvm.MethodName) prog_1_method_20_code (2 : Nat) (Option.some Jvm.ClassFile.FieldType.boolean)) ∈ lw_all := lw_g (lw_at lw_m1 118 rfl) rfl
theorem q137 : (Jvm.Cond.methodLink "LoadStoreQueue" (109 : Nat) ({ cls := "LoadStoreQueue", name := "isThere", desc := "(I)Z" } : Jvm.MethodName)) ∈ lw_all := lw_g (lw_at lw_m1 119 rfl) rfl
theorem q138 : (Jvm.Cond.privateMethod ({ cls := "LoadStoreQueue", name := "isThere", desc := "(I)Z" } : Jvm.MethodName)) ∈ lw_tbl := lw_at lw_m1 120 rfl
theorem q139 : (Jvm.Cond.instanceMethod ({ cls := "LoadStoreQueue", name := "isThere", desc := "(I)Z" } : Jvm.MethodName)) ∈ lw_all := lw_g (lw_at lw_m1 121 rfl) rfl
theorem q140 : (Jvm.Cond.code ({ cls := "LoadStoreQueue", name := "isThere", desc := "(I)Z" } : Jvm.MethodName) prog_1_method_15_code (2 : Nat) (Option.some Jvm.ClassFile.FieldType.boolean)) ∈ lw_all := lw_g (lw_at lw_m1 122 rfl) rfl
theorem q141 : (Jvm.Cond.methodLink "LoadStoreQueue" (100 : Nat) ({ cls := "LoadStoreQueue", name := "finishLoad", desc := "(I)V" } : Jvm.MethodName)) ∈ lw_all := lw_g (lw_at lw_m1 123 rfl) rfl
theorem q142 : (Jvm.Cond.privateMethod ({ cls := "LoadStoreQueue", name := "finishLoad", desc := "(I)V" } : Jvm.MethodName)) ∈ lw_tbl := lw_at lw_m1 124 rfl
theorem q143 : (Jvm.Cond.instanceMethod ({ cls := "LoadStoreQueue", name := "finishLoad", desc := "(I)V" } : Jvm.MethodName)) ∈ lw_all := lw_g (lw_at lw_m1 125 rfl) rfl
theorem q144 : (Jvm.Cond.code ({ cls := "LoadStoreQueue", name := "finishLoad", desc := "(I)V" } : Jvm.MethodName) prog_1_method_23_code (5 : Nat) (Option.none : Option Jvm.ClassFile.FieldType)) ∈ lw_all := lw_g (lw_at lw_m1 126 rfl) rfl
theorem q145 : (Jvm.Cond.methodLink "LoadStoreQueue" (116 : Nat) ({ cls := "LoadStoreQueue", name := "addressOf", desc := "(I)I" } : Jvm.MethodName)) ∈ lw_all := lw_g (lw_at lw_m1 127 rfl) rfl
theorem q146 : (Jvm.Cond.privateMethod ({ cls := "LoadStoreQueue", name := "addressOf", desc := "(I)I" } : Jvm.MethodName)) ∈ lw_tbl := lw_at lw_m1 128 rfl
theorem q147 : (Jvm.Cond.instanceMethod ({ cls := "LoadStoreQueue", name := "addressOf", desc := "(I)I" } : Jvm.MethodName)) ∈ lw_all := lw_g (lw_at lw_m1 129 rfl) rfl
theorem q148 : (Jvm.Cond.code ({ cls := "LoadStoreQueue", name := "addressOf", desc := "(I)I" } : Jvm.MethodName) prog_1_method_22_code (3 : Nat) (Option.some Jvm.ClassFile.FieldType.int)) ∈ lw_all := lw_g (lw_at lw_m1 130 rfl) rfl
theorem q149 : (Jvm.Cond.methodLink "LoadStoreQueue" (112 : Nat) ({ cls := "LoadStoreQueue", name := "valueFrom", desc := "(II)I" } : Jvm.MethodName)) ∈ lw_all := lw_g (lw_at lw_m1 131 rfl) rfl
theorem q150 : (Jvm.Cond.privateMethod ({ cls := "LoadStoreQueue", name := "valueFrom", desc := "(II)I" } : Jvm.MethodName)) ∈ lw_tbl := lw_at lw_m1 132 rfl
theorem q151 : (Jvm.Cond.instanceMethod ({ cls := "LoadStoreQueue", name := "valueFrom", desc := "(II)I" } : Jvm.MethodName)) ∈ lw_all := lw_g (lw_at lw_m1 133 rfl) rfl
theorem q152 : (Jvm.Cond.code ({ cls := "LoadStoreQueue", name := "valueFrom", desc := "(II)I" } : Jvm.MethodName) prog_1_method_16_code (3 : Nat) (Option.some Jvm.ClassFile.FieldType.int)) ∈ lw_all := lw_g (lw_at lw_m1 134 rfl) rfl
theorem q153 : (Jvm.Cond.methodLink "LoadStoreQueue" (103 : Nat) ({ cls := "LoadStoreQueue", name := "finishStore", desc := "(I)V" } : Jvm.MethodName)) ∈ lw_all := lw_g (lw_at lw_m1 135 rfl) rfl
theorem q154 : (Jvm.Cond.privateMethod ({ cls := "LoadStoreQueue", name := "finishStore", desc := "(I)V" } : Jvm.MethodName)) ∈ lw_tbl := lw_at lw_m1 136 rfl
theorem q155 : (Jvm.Cond.instanceMethod ({ cls := "LoadStoreQueue", name := "finishStore", desc := "(I)V" } : Jvm.MethodName)) ∈ lw_all := lw_g (lw_at lw_m1 137 rfl) rfl
theorem q156 : (Jvm.Cond.code ({ cls := "LoadStoreQueue", name := "finishStore", desc := "(I)V" } : Jvm.MethodName) prog_1_method_24_code (3 : Nat) (Option.none : Option Jvm.ClassFile.FieldType)) ∈ lw_all := lw_g (lw_at lw_m1 138 rfl) rfl
theorem q157 : (Jvm.Cond.methodLink "LoadStoreQueue" (119 : Nat) ({ cls := "LoadStoreQueue", name := "catchEarly", desc := "(II)V" } : Jvm.MethodName)) ∈ lw_all := lw_g (lw_at lw_m1 139 rfl) rfl
theorem q158 : (Jvm.Cond.privateMethod ({ cls := "LoadStoreQueue", name := "catchEarly", desc := "(II)V" } : Jvm.MethodName)) ∈ lw_tbl := lw_at lw_m1 140 rfl
theorem q159 : (Jvm.Cond.instanceMethod ({ cls := "LoadStoreQueue", name := "catchEarly", desc := "(II)V" } : Jvm.MethodName)) ∈ lw_all := lw_g (lw_at lw_m1 141 rfl) rfl
theorem q160 : (Jvm.Cond.code ({ cls := "LoadStoreQueue", name := "catchEarly", desc := "(II)V" } : Jvm.MethodName) prog_1_method_25_code (5 : Nat) (Option.none : Option Jvm.ClassFile.FieldType)) ∈ lw_all := lw_g (lw_at lw_m1 142 rfl) rfl
theorem q161 : (Jvm.Cond.methodLink "LoadStoreQueue" (106 : Nat) ({ cls := "LoadStoreQueue", name := "finishPlain", desc := "(I)V" } : Jvm.MethodName)) ∈ lw_all := lw_g (lw_at lw_m1 143 rfl) rfl
theorem q162 : (Jvm.Cond.privateMethod ({ cls := "LoadStoreQueue", name := "finishPlain", desc := "(I)V" } : Jvm.MethodName)) ∈ lw_tbl := lw_at lw_m1 144 rfl
theorem q163 : (Jvm.Cond.instanceMethod ({ cls := "LoadStoreQueue", name := "finishPlain", desc := "(I)V" } : Jvm.MethodName)) ∈ lw_all := lw_g (lw_at lw_m1 145 rfl) rfl
theorem q164 : (Jvm.Cond.code ({ cls := "LoadStoreQueue", name := "finishPlain", desc := "(I)V" } : Jvm.MethodName) prog_1_method_21_code (6 : Nat) (Option.none : Option Jvm.ClassFile.FieldType)) ∈ lw_all := lw_g (lw_at lw_m1 146 rfl) rfl
theorem q165 : (Jvm.Cond.methodLink "LoadStoreQueue" (86 : Nat) ({ cls := "LoadStoreQueue", name := "takeEffect", desc := "()V" } : Jvm.MethodName)) ∈ lw_all := lw_g (lw_at lw_m1 147 rfl) rfl
theorem q166 : (Jvm.Cond.privateMethod ({ cls := "LoadStoreQueue", name := "takeEffect", desc := "()V" } : Jvm.MethodName)) ∈ lw_tbl := lw_at lw_m1 148 rfl
theorem q167 : (Jvm.Cond.instanceMethod ({ cls := "LoadStoreQueue", name := "takeEffect", desc := "()V" } : Jvm.MethodName)) ∈ lw_all := lw_g (lw_at lw_m1 149 rfl) rfl
theorem q168 : (Jvm.Cond.code ({ cls := "LoadStoreQueue", name := "takeEffect", desc := "()V" } : Jvm.MethodName) prog_1_method_26_code (3 : Nat) (Option.none : Option Jvm.ClassFile.FieldType)) ∈ lw_all := lw_g (lw_at lw_m1 150 rfl) rfl
theorem q170 : (Jvm.Cond.instanceMethod ({ cls := "LoadStoreQueue", name := "fed", desc := "()I" } : Jvm.MethodName)) ∈ lw_all := lw_g (lw_at lw_m1 152 rfl) rfl
theorem q171 : (Jvm.Cond.selects "LoadStoreQueue" ({ cls := "LoadStoreQueue", name := "fed", desc := "()I" } : Jvm.MethodName) ({ cls := "LoadStoreQueue", name := "fed", desc := "()I" } : Jvm.MethodName)) ∈ lw_all := lw_g (lw_at lw_m1 153 rfl) rfl
theorem q172 : (Jvm.Cond.code ({ cls := "LoadStoreQueue", name := "fed", desc := "()I" } : Jvm.MethodName) prog_1_method_6_code (1 : Nat) (Option.some Jvm.ClassFile.FieldType.int)) ∈ lw_all := lw_g (lw_at lw_m1 154 rfl) rfl
theorem q174 : (Jvm.Cond.instanceMethod ({ cls := "LoadStoreQueue", name := "written", desc := "()I" } : Jvm.MethodName)) ∈ lw_all := lw_g (lw_at lw_m1 156 rfl) rfl
theorem q175 : (Jvm.Cond.selects "LoadStoreQueue" ({ cls := "LoadStoreQueue", name := "written", desc := "()I" } : Jvm.MethodName) ({ cls := "LoadStoreQueue", name := "written", desc := "()I" } : Jvm.MethodName)) ∈ lw_all := lw_g (lw_at lw_m1 157 rfl) rfl
theorem q176 : (Jvm.Cond.code ({ cls := "LoadStoreQueue", name := "written", desc := "()I" } : Jvm.MethodName) prog_1_method_7_code (3 : Nat) (Option.some Jvm.ClassFile.FieldType.int)) ∈ lw_all := lw_g (lw_at lw_m1 158 rfl) rfl
theorem q178 : (Jvm.Cond.instanceMethod ({ cls := "LoadStoreQueue", name := "register", desc := "(I)I" } : Jvm.MethodName)) ∈ lw_all := lw_g (lw_at lw_m1 160 rfl) rfl
theorem q179 : (Jvm.Cond.selects "LoadStoreQueue" ({ cls := "LoadStoreQueue", name := "register", desc := "(I)I" } : Jvm.MethodName) ({ cls := "LoadStoreQueue", name := "register", desc := "(I)I" } : Jvm.MethodName)) ∈ lw_all := lw_g (lw_at lw_m1 161 rfl) rfl
theorem q180 : (Jvm.Cond.code ({ cls := "LoadStoreQueue", name := "register", desc := "(I)I" } : Jvm.MethodName) prog_1_method_8_code (2 : Nat) (Option.some Jvm.ClassFile.FieldType.int)) ∈ lw_all := lw_g (lw_at lw_m1 162 rfl) rfl
theorem q182 : (Jvm.Cond.instanceMethod ({ cls := "LoadStoreQueue", name := "setRegister", desc := "(II)Z" } : Jvm.MethodName)) ∈ lw_all := lw_g (lw_at lw_m1 164 rfl) rfl
theorem q183 : (Jvm.Cond.selects "LoadStoreQueue" ({ cls := "LoadStoreQueue", name := "setRegister", desc := "(II)Z" } : Jvm.MethodName) ({ cls := "LoadStoreQueue", name := "setRegister", desc := "(II)Z" } : Jvm.MethodName)) ∈ lw_all := lw_g (lw_at lw_m1 165 rfl) rfl
theorem q184 : (Jvm.Cond.code ({ cls := "LoadStoreQueue", name := "setRegister", desc := "(II)Z" } : Jvm.MethodName) prog_1_method_9_code (3 : Nat) (Option.some Jvm.ClassFile.FieldType.boolean)) ∈ lw_all := lw_g (lw_at lw_m1 166 rfl) rfl
theorem q186 : (Jvm.Cond.instanceMethod ({ cls := "LoadStoreQueue", name := "memory", desc := "(I)I" } : Jvm.MethodName)) ∈ lw_all := lw_g (lw_at lw_m1 168 rfl) rfl
theorem q187 : (Jvm.Cond.selects "LoadStoreQueue" ({ cls := "LoadStoreQueue", name := "memory", desc := "(I)I" } : Jvm.MethodName) ({ cls := "LoadStoreQueue", name := "memory", desc := "(I)I" } : Jvm.MethodName)) ∈ lw_all := lw_g (lw_at lw_m1 169 rfl) rfl
theorem q188 : (Jvm.Cond.code ({ cls := "LoadStoreQueue", name := "memory", desc := "(I)I" } : Jvm.MethodName) prog_1_method_10_code (2 : Nat) (Option.some Jvm.ClassFile.FieldType.int)) ∈ lw_all := lw_g (lw_at lw_m1 170 rfl) rfl
theorem q190 : (Jvm.Cond.instanceMethod ({ cls := "LoadStoreQueue", name := "setMemory", desc := "(II)Z" } : Jvm.MethodName)) ∈ lw_all := lw_g (lw_at lw_m1 172 rfl) rfl
theorem q191 : (Jvm.Cond.selects "LoadStoreQueue" ({ cls := "LoadStoreQueue", name := "setMemory", desc := "(II)Z" } : Jvm.MethodName) ({ cls := "LoadStoreQueue", name := "setMemory", desc := "(II)Z" } : Jvm.MethodName)) ∈ lw_all := lw_g (lw_at lw_m1 173 rfl) rfl
theorem q192 : (Jvm.Cond.code ({ cls := "LoadStoreQueue", name := "setMemory", desc := "(II)Z" } : Jvm.MethodName) prog_1_method_11_code (3 : Nat) (Option.some Jvm.ClassFile.FieldType.boolean)) ∈ lw_all := lw_g (lw_at lw_m1 174 rfl) rfl
theorem in_X0 : ∀ w ∈ wsX00, w ∈ lw_all := lw_in wsX00 [49, 51, 53, 55, 57, 59, 61, 63, 65, 67, 69, 71, 73, 75, 77, 79, 81, 83, 85, 87] (by decide +kernel) (by decide +kernel)
/-! LoadStoreQueueModel -/
def RX1 : String := "LoadStoreQueueModel"
def TX1 : u_T := fun k => match k with
  | 0 => ("LoadStoreQueueModel", "n", "I", false)
  | 1 => ("LoadStoreQueueModel", "op", "[I", false)
  | 2 => ("LoadStoreQueueModel", "x", "[I", false)
  | 3 => ("LoadStoreQueueModel", "y", "[I", false)
  | 4 => ("LoadStoreQueueModel", "z", "[I", false)
  | 5 => ("LoadStoreQueueModel", "regs", "[I", false)
  | 6 => ("LoadStoreQueueModel", "cells", "[I", false)
  | 7 => ("LoadStoreQueueModel", "fed", "I", false)
  | _ => ("LoadStoreQueueModel", "wrote", "[Z", false)
def tyX1 : Nat → FieldType := fun k => match k with
  | 0 => .int
  | 1 => .array .int
  | 2 => .array .int
  | 3 => .array .int
  | 4 => .array .int
  | 5 => .array .int
  | 6 => .array .int
  | 7 => .int
  | _ => .array .boolean
abbrev wsX10 : List Cond := u_ws RX1 TX1 9
theorem nmX1 : ∀ a, a < 9 → ∀ b, b < 9 → a ≠ b → (TX1 a).2.1 ≠ (TX1 b).2.1 := by decide +kernel
theorem tyX1_ok : ∀ k, k < 9 → parseFieldDescriptor (TX1 k).2.2.1 = some (tyX1 k) := by decide +kernel
abbrev cX1_init : ByteArray := prog_3_method_1_code
def yX1_init : MethodName := ⟨RX1, "<init>", "()V"⟩
abbrev cX1_emit : ByteArray := prog_3_method_3_code
def yX1_emit : MethodName := ⟨RX1, "emit", "(IIII)I"⟩
abbrev cX1_isRegister : ByteArray := prog_3_method_2_code
def yX1_isRegister : MethodName := ⟨RX1, "isRegister", "(I)Z"⟩
abbrev cX1_retract : ByteArray := prog_3_method_4_code
def yX1_retract : MethodName := ⟨RX1, "retract", "()I"⟩
abbrev cX1_drop : ByteArray := prog_3_method_5_code
def yX1_drop : MethodName := ⟨RX1, "drop", "()I"⟩
abbrev cX1_run : ByteArray := prog_3_method_8_code
def yX1_run : MethodName := ⟨RX1, "run", "(I)I"⟩
abbrev cX1_execute : ByteArray := prog_3_method_7_code
def yX1_execute : MethodName := ⟨RX1, "execute", "(I)V"⟩
abbrev cX1_result : ByteArray := prog_3_method_6_code
def yX1_result : MethodName := ⟨RX1, "result", "(I)I"⟩
abbrev cX1_fed : ByteArray := prog_3_method_9_code
def yX1_fed : MethodName := ⟨RX1, "fed", "()I"⟩
abbrev cX1_written : ByteArray := prog_3_method_10_code
def yX1_written : MethodName := ⟨RX1, "written", "()I"⟩
abbrev cX1_register : ByteArray := prog_3_method_11_code
def yX1_register : MethodName := ⟨RX1, "register", "(I)I"⟩
abbrev cX1_setRegister : ByteArray := prog_3_method_12_code
def yX1_setRegister : MethodName := ⟨RX1, "setRegister", "(II)Z"⟩
abbrev cX1_memory : ByteArray := prog_3_method_13_code
def yX1_memory : MethodName := ⟨RX1, "memory", "(I)I"⟩
abbrev cX1_setMemory : ByteArray := prog_3_method_14_code
def yX1_setMemory : MethodName := ⟨RX1, "setMemory", "(II)Z"⟩
theorem q20 : (Jvm.Cond.initialized "LoadStoreQueueModel") ∈ lw_all := lw_g (lw_at lw_m1 2 rfl) rfl
theorem q194 : (Jvm.Cond.instantiable "LoadStoreQueueModel" (9 : Nat)) ∈ lw_all := lw_g (lw_at lw_m1 176 rfl) rfl
theorem q196 : (Jvm.Cond.instanceMethod ({ cls := "LoadStoreQueueModel", name := "<init>", desc := "()V" } : Jvm.MethodName)) ∈ lw_all := lw_g (lw_at lw_m1 178 rfl) rfl
theorem q197 : (Jvm.Cond.code ({ cls := "LoadStoreQueueModel", name := "<init>", desc := "()V" } : Jvm.MethodName) prog_3_method_1_code (1 : Nat) (Option.none : Option Jvm.ClassFile.FieldType)) ∈ lw_all := lw_g (lw_at lw_m1 179 rfl) rfl
theorem q198 : (Jvm.Cond.methodLink "LoadStoreQueueModel" (1 : Nat) ({ cls := "java/lang/Object", name := "<init>", desc := "()V" } : Jvm.MethodName)) ∈ lw_all := lw_g (lw_at lw_m1 180 rfl) rfl
theorem q199 : (Jvm.Cond.fieldLink "LoadStoreQueueModel" (7 : Nat) "LoadStoreQueueModel" "n" "I") ∈ lw_all := lw_g (lw_at lw_m1 181 rfl) rfl
theorem q200 : (Jvm.Cond.fieldLink "LoadStoreQueueModel" (13 : Nat) "LoadStoreQueueModel" "op" "[I") ∈ lw_all := lw_g (lw_at lw_m1 182 rfl) rfl
theorem q201 : (Jvm.Cond.fieldLink "LoadStoreQueueModel" (17 : Nat) "LoadStoreQueueModel" "x" "[I") ∈ lw_all := lw_g (lw_at lw_m1 183 rfl) rfl
theorem q202 : (Jvm.Cond.fieldLink "LoadStoreQueueModel" (20 : Nat) "LoadStoreQueueModel" "y" "[I") ∈ lw_all := lw_g (lw_at lw_m1 184 rfl) rfl
theorem q203 : (Jvm.Cond.fieldLink "LoadStoreQueueModel" (23 : Nat) "LoadStoreQueueModel" "z" "[I") ∈ lw_all := lw_g (lw_at lw_m1 185 rfl) rfl
theorem q204 : (Jvm.Cond.fieldLink "LoadStoreQueueModel" (26 : Nat) "LoadStoreQueueModel" "regs" "[I") ∈ lw_all := lw_g (lw_at lw_m1 186 rfl) rfl
theorem q205 : (Jvm.Cond.fieldLink "LoadStoreQueueModel" (29 : Nat) "LoadStoreQueueModel" "cells" "[I") ∈ lw_all := lw_g (lw_at lw_m1 187 rfl) rfl
theorem q206 : (Jvm.Cond.fieldLink "LoadStoreQueueModel" (32 : Nat) "LoadStoreQueueModel" "fed" "I") ∈ lw_all := lw_g (lw_at lw_m1 188 rfl) rfl
theorem q207 : (Jvm.Cond.fieldLink "LoadStoreQueueModel" (35 : Nat) "LoadStoreQueueModel" "wrote" "[Z") ∈ lw_all := lw_g (lw_at lw_m1 189 rfl) rfl
theorem q208 : (Jvm.Cond.lays "LoadStoreQueueModel" "LoadStoreQueueModel" "n" "I") ∈ lw_all := lw_g (lw_at lw_m1 190 rfl) rfl
theorem q209 : (Jvm.Cond.soleField "LoadStoreQueueModel" "n") ∈ lw_all := lw_g (lw_at lw_m1 191 rfl) rfl
theorem q210 : (Jvm.Cond.lays "LoadStoreQueueModel" "LoadStoreQueueModel" "op" "[I") ∈ lw_all := lw_g (lw_at lw_m1 192 rfl) rfl
theorem q211 : (Jvm.Cond.soleField "LoadStoreQueueModel" "op") ∈ lw_all := lw_g (lw_at lw_m1 193 rfl) rfl
theorem q212 : (Jvm.Cond.lays "LoadStoreQueueModel" "LoadStoreQueueModel" "x" "[I") ∈ lw_all := lw_g (lw_at lw_m1 194 rfl) rfl
theorem q213 : (Jvm.Cond.soleField "LoadStoreQueueModel" "x") ∈ lw_all := lw_g (lw_at lw_m1 195 rfl) rfl
theorem q214 : (Jvm.Cond.lays "LoadStoreQueueModel" "LoadStoreQueueModel" "y" "[I") ∈ lw_all := lw_g (lw_at lw_m1 196 rfl) rfl
theorem q215 : (Jvm.Cond.soleField "LoadStoreQueueModel" "y") ∈ lw_all := lw_g (lw_at lw_m1 197 rfl) rfl
theorem q216 : (Jvm.Cond.lays "LoadStoreQueueModel" "LoadStoreQueueModel" "z" "[I") ∈ lw_all := lw_g (lw_at lw_m1 198 rfl) rfl
theorem q217 : (Jvm.Cond.soleField "LoadStoreQueueModel" "z") ∈ lw_all := lw_g (lw_at lw_m1 199 rfl) rfl
theorem q218 : (Jvm.Cond.lays "LoadStoreQueueModel" "LoadStoreQueueModel" "regs" "[I") ∈ lw_all := lw_g (lw_at lw_m1 200 rfl) rfl
theorem q219 : (Jvm.Cond.soleField "LoadStoreQueueModel" "regs") ∈ lw_all := lw_g (lw_at lw_m1 201 rfl) rfl
theorem q220 : (Jvm.Cond.lays "LoadStoreQueueModel" "LoadStoreQueueModel" "cells" "[I") ∈ lw_all := lw_g (lw_at lw_m1 202 rfl) rfl
theorem q221 : (Jvm.Cond.soleField "LoadStoreQueueModel" "cells") ∈ lw_all := lw_g (lw_at lw_m1 203 rfl) rfl
theorem q222 : (Jvm.Cond.lays "LoadStoreQueueModel" "LoadStoreQueueModel" "fed" "I") ∈ lw_all := lw_g (lw_at lw_m1 204 rfl) rfl
theorem q223 : (Jvm.Cond.soleField "LoadStoreQueueModel" "fed") ∈ lw_all := lw_g (lw_at lw_m1 205 rfl) rfl
theorem q224 : (Jvm.Cond.lays "LoadStoreQueueModel" "LoadStoreQueueModel" "wrote" "[Z") ∈ lw_all := lw_g (lw_at lw_m1 206 rfl) rfl
theorem q225 : (Jvm.Cond.soleField "LoadStoreQueueModel" "wrote") ∈ lw_all := lw_g (lw_at lw_m1 207 rfl) rfl
theorem q226 : (Jvm.Cond.superclass "LoadStoreQueueModel" "java/lang/Object") ∈ lw_all := lw_g (lw_at lw_m1 208 rfl) rfl
theorem q229 : (Jvm.Cond.instanceMethod ({ cls := "LoadStoreQueueModel", name := "emit", desc := "(IIII)I" } : Jvm.MethodName)) ∈ lw_all := lw_g (lw_at lw_m1 211 rfl) rfl
theorem q230 : (Jvm.Cond.selects "LoadStoreQueueModel" ({ cls := "LoadStoreQueueModel", name := "emit", desc := "(IIII)I" } : Jvm.MethodName) ({ cls := "LoadStoreQueueModel", name := "emit", desc := "(IIII)I" } : Jvm.MethodName)) ∈ lw_all := lw_g (lw_at lw_m1 212 rfl) rfl
theorem q231 : (Jvm.Cond.code ({ cls := "LoadStoreQueueModel", name := "emit", desc := "(IIII)I" } : Jvm.MethodName) prog_3_method_3_code (6 : Nat) (Option.some Jvm.ClassFile.FieldType.int)) ∈ lw_all := lw_g (lw_at lw_m1 213 rfl) rfl
theorem q232 : (Jvm.Cond.methodLink "LoadStoreQueueModel" (39 : Nat) ({ cls := "LoadStoreQueueModel", name := "isRegister", desc := "(I)Z" } : Jvm.MethodName)) ∈ lw_all := lw_g (lw_at lw_m1 214 rfl) rfl
theorem q233 : (Jvm.Cond.privateMethod ({ cls := "LoadStoreQueueModel", name := "isRegister", desc := "(I)Z" } : Jvm.MethodName)) ∈ lw_tbl := lw_at lw_m1 215 rfl
theorem q234 : (Jvm.Cond.instanceMethod ({ cls := "LoadStoreQueueModel", name := "isRegister", desc := "(I)Z" } : Jvm.MethodName)) ∈ lw_all := lw_g (lw_at lw_m1 216 rfl) rfl
theorem q235 : (Jvm.Cond.code ({ cls := "LoadStoreQueueModel", name := "isRegister", desc := "(I)Z" } : Jvm.MethodName) prog_3_method_2_code (2 : Nat) (Option.some Jvm.ClassFile.FieldType.boolean)) ∈ lw_all := lw_g (lw_at lw_m1 217 rfl) rfl
theorem q237 : (Jvm.Cond.instanceMethod ({ cls := "LoadStoreQueueModel", name := "retract", desc := "()I" } : Jvm.MethodName)) ∈ lw_all := lw_g (lw_at lw_m1 219 rfl) rfl
theorem q238 : (Jvm.Cond.selects "LoadStoreQueueModel" ({ cls := "LoadStoreQueueModel", name := "retract", desc := "()I" } : Jvm.MethodName) ({ cls := "LoadStoreQueueModel", name := "retract", desc := "()I" } : Jvm.MethodName)) ∈ lw_all := lw_g (lw_at lw_m1 220 rfl) rfl
theorem q239 : (Jvm.Cond.code ({ cls := "LoadStoreQueueModel", name := "retract", desc := "()I" } : Jvm.MethodName) prog_3_method_4_code (1 : Nat) (Option.some Jvm.ClassFile.FieldType.int)) ∈ lw_all := lw_g (lw_at lw_m1 221 rfl) rfl
theorem q241 : (Jvm.Cond.instanceMethod ({ cls := "LoadStoreQueueModel", name := "drop", desc := "()I" } : Jvm.MethodName)) ∈ lw_all := lw_g (lw_at lw_m1 223 rfl) rfl
theorem q242 : (Jvm.Cond.selects "LoadStoreQueueModel" ({ cls := "LoadStoreQueueModel", name := "drop", desc := "()I" } : Jvm.MethodName) ({ cls := "LoadStoreQueueModel", name := "drop", desc := "()I" } : Jvm.MethodName)) ∈ lw_all := lw_g (lw_at lw_m1 224 rfl) rfl
theorem q243 : (Jvm.Cond.code ({ cls := "LoadStoreQueueModel", name := "drop", desc := "()I" } : Jvm.MethodName) prog_3_method_5_code (2 : Nat) (Option.some Jvm.ClassFile.FieldType.int)) ∈ lw_all := lw_g (lw_at lw_m1 225 rfl) rfl
theorem q245 : (Jvm.Cond.instanceMethod ({ cls := "LoadStoreQueueModel", name := "run", desc := "(I)I" } : Jvm.MethodName)) ∈ lw_all := lw_g (lw_at lw_m1 227 rfl) rfl
theorem q246 : (Jvm.Cond.selects "LoadStoreQueueModel" ({ cls := "LoadStoreQueueModel", name := "run", desc := "(I)I" } : Jvm.MethodName) ({ cls := "LoadStoreQueueModel", name := "run", desc := "(I)I" } : Jvm.MethodName)) ∈ lw_all := lw_g (lw_at lw_m1 228 rfl) rfl
theorem q247 : (Jvm.Cond.code ({ cls := "LoadStoreQueueModel", name := "run", desc := "(I)I" } : Jvm.MethodName) prog_3_method_8_code (3 : Nat) (Option.some Jvm.ClassFile.FieldType.int)) ∈ lw_all := lw_g (lw_at lw_m1 229 rfl) rfl
theorem q248 : (Jvm.Cond.methodLink "LoadStoreQueueModel" (47 : Nat) ({ cls := "LoadStoreQueueModel", name := "execute", desc := "(I)V" } : Jvm.MethodName)) ∈ lw_all := lw_g (lw_at lw_m1 230 rfl) rfl
theorem q249 : (Jvm.Cond.privateMethod ({ cls := "LoadStoreQueueModel", name := "execute", desc := "(I)V" } : Jvm.MethodName)) ∈ lw_tbl := lw_at lw_m1 231 rfl
theorem q250 : (Jvm.Cond.instanceMethod ({ cls := "LoadStoreQueueModel", name := "execute", desc := "(I)V" } : Jvm.MethodName)) ∈ lw_all := lw_g (lw_at lw_m1 232 rfl) rfl
theorem q251 : (Jvm.Cond.code ({ cls := "LoadStoreQueueModel", name := "execute", desc := "(I)V" } : Jvm.MethodName) prog_3_method_7_code (3 : Nat) (Option.none : Option Jvm.ClassFile.FieldType)) ∈ lw_all := lw_g (lw_at lw_m1 233 rfl) rfl
theorem q252 : (Jvm.Cond.methodLink "LoadStoreQueueModel" (43 : Nat) ({ cls := "LoadStoreQueueModel", name := "result", desc := "(I)I" } : Jvm.MethodName)) ∈ lw_all := lw_g (lw_at lw_m1 234 rfl) rfl
theorem q253 : (Jvm.Cond.privateMethod ({ cls := "LoadStoreQueueModel", name := "result", desc := "(I)I" } : Jvm.MethodName)) ∈ lw_tbl := lw_at lw_m1 235 rfl
theorem q254 : (Jvm.Cond.instanceMethod ({ cls := "LoadStoreQueueModel", name := "result", desc := "(I)I" } : Jvm.MethodName)) ∈ lw_all := lw_g (lw_at lw_m1 236 rfl) rfl
theorem q255 : (Jvm.Cond.code ({ cls := "LoadStoreQueueModel", name := "result", desc := "(I)I" } : Jvm.MethodName) prog_3_method_6_code (4 : Nat) (Option.some Jvm.ClassFile.FieldType.int)) ∈ lw_all := lw_g (lw_at lw_m1 237 rfl) rfl
theorem q257 : (Jvm.Cond.instanceMethod ({ cls := "LoadStoreQueueModel", name := "fed", desc := "()I" } : Jvm.MethodName)) ∈ lw_all := lw_g (lw_at lw_m1 239 rfl) rfl
theorem q258 : (Jvm.Cond.selects "LoadStoreQueueModel" ({ cls := "LoadStoreQueueModel", name := "fed", desc := "()I" } : Jvm.MethodName) ({ cls := "LoadStoreQueueModel", name := "fed", desc := "()I" } : Jvm.MethodName)) ∈ lw_all := lw_g (lw_at lw_m2 0 rfl) rfl
theorem q259 : (Jvm.Cond.code ({ cls := "LoadStoreQueueModel", name := "fed", desc := "()I" } : Jvm.MethodName) prog_3_method_9_code (1 : Nat) (Option.some Jvm.ClassFile.FieldType.int)) ∈ lw_all := lw_g (lw_at lw_m2 1 rfl) rfl
theorem q261 : (Jvm.Cond.instanceMethod ({ cls := "LoadStoreQueueModel", name := "written", desc := "()I" } : Jvm.MethodName)) ∈ lw_all := lw_g (lw_at lw_m2 3 rfl) rfl
theorem q262 : (Jvm.Cond.selects "LoadStoreQueueModel" ({ cls := "LoadStoreQueueModel", name := "written", desc := "()I" } : Jvm.MethodName) ({ cls := "LoadStoreQueueModel", name := "written", desc := "()I" } : Jvm.MethodName)) ∈ lw_all := lw_g (lw_at lw_m2 4 rfl) rfl
theorem q263 : (Jvm.Cond.code ({ cls := "LoadStoreQueueModel", name := "written", desc := "()I" } : Jvm.MethodName) prog_3_method_10_code (3 : Nat) (Option.some Jvm.ClassFile.FieldType.int)) ∈ lw_all := lw_g (lw_at lw_m2 5 rfl) rfl
theorem q265 : (Jvm.Cond.instanceMethod ({ cls := "LoadStoreQueueModel", name := "register", desc := "(I)I" } : Jvm.MethodName)) ∈ lw_all := lw_g (lw_at lw_m2 7 rfl) rfl
theorem q266 : (Jvm.Cond.selects "LoadStoreQueueModel" ({ cls := "LoadStoreQueueModel", name := "register", desc := "(I)I" } : Jvm.MethodName) ({ cls := "LoadStoreQueueModel", name := "register", desc := "(I)I" } : Jvm.MethodName)) ∈ lw_all := lw_g (lw_at lw_m2 8 rfl) rfl
theorem q267 : (Jvm.Cond.code ({ cls := "LoadStoreQueueModel", name := "register", desc := "(I)I" } : Jvm.MethodName) prog_3_method_11_code (2 : Nat) (Option.some Jvm.ClassFile.FieldType.int)) ∈ lw_all := lw_g (lw_at lw_m2 9 rfl) rfl
theorem q269 : (Jvm.Cond.instanceMethod ({ cls := "LoadStoreQueueModel", name := "setRegister", desc := "(II)Z" } : Jvm.MethodName)) ∈ lw_all := lw_g (lw_at lw_m2 11 rfl) rfl
theorem q270 : (Jvm.Cond.selects "LoadStoreQueueModel" ({ cls := "LoadStoreQueueModel", name := "setRegister", desc := "(II)Z" } : Jvm.MethodName) ({ cls := "LoadStoreQueueModel", name := "setRegister", desc := "(II)Z" } : Jvm.MethodName)) ∈ lw_all := lw_g (lw_at lw_m2 12 rfl) rfl
theorem q271 : (Jvm.Cond.code ({ cls := "LoadStoreQueueModel", name := "setRegister", desc := "(II)Z" } : Jvm.MethodName) prog_3_method_12_code (3 : Nat) (Option.some Jvm.ClassFile.FieldType.boolean)) ∈ lw_all := lw_g (lw_at lw_m2 13 rfl) rfl
theorem q273 : (Jvm.Cond.instanceMethod ({ cls := "LoadStoreQueueModel", name := "memory", desc := "(I)I" } : Jvm.MethodName)) ∈ lw_all := lw_g (lw_at lw_m2 15 rfl) rfl
theorem q274 : (Jvm.Cond.selects "LoadStoreQueueModel" ({ cls := "LoadStoreQueueModel", name := "memory", desc := "(I)I" } : Jvm.MethodName) ({ cls := "LoadStoreQueueModel", name := "memory", desc := "(I)I" } : Jvm.MethodName)) ∈ lw_all := lw_g (lw_at lw_m2 16 rfl) rfl
theorem q275 : (Jvm.Cond.code ({ cls := "LoadStoreQueueModel", name := "memory", desc := "(I)I" } : Jvm.MethodName) prog_3_method_13_code (2 : Nat) (Option.some Jvm.ClassFile.FieldType.int)) ∈ lw_all := lw_g (lw_at lw_m2 17 rfl) rfl
theorem q277 : (Jvm.Cond.instanceMethod ({ cls := "LoadStoreQueueModel", name := "setMemory", desc := "(II)Z" } : Jvm.MethodName)) ∈ lw_all := lw_g (lw_at lw_m2 19 rfl) rfl
theorem q278 : (Jvm.Cond.selects "LoadStoreQueueModel" ({ cls := "LoadStoreQueueModel", name := "setMemory", desc := "(II)Z" } : Jvm.MethodName) ({ cls := "LoadStoreQueueModel", name := "setMemory", desc := "(II)Z" } : Jvm.MethodName)) ∈ lw_all := lw_g (lw_at lw_m2 20 rfl) rfl
theorem q279 : (Jvm.Cond.code ({ cls := "LoadStoreQueueModel", name := "setMemory", desc := "(II)Z" } : Jvm.MethodName) prog_3_method_14_code (3 : Nat) (Option.some Jvm.ClassFile.FieldType.boolean)) ∈ lw_all := lw_g (lw_at lw_m2 21 rfl) rfl
theorem in_X1 : ∀ w ∈ wsX10, w ∈ lw_all := lw_in wsX10 [208, 210, 212, 214, 216, 218, 220, 222, 224] (by decide +kernel) (by decide +kernel)
/-! java/lang/Object -/
def RJ0 : String := "java/lang/Object"
abbrev cJ0_init : ByteArray := object_method_1_code
def yJ0_init : MethodName := ⟨RJ0, "<init>", "()V"⟩
theorem q27 : (Jvm.Cond.instanceMethod ({ cls := "java/lang/Object", name := "<init>", desc := "()V" } : Jvm.MethodName)) ∈ lw_all := lw_g (lw_at lw_m1 9 rfl) rfl
theorem q28 : (Jvm.Cond.code ({ cls := "java/lang/Object", name := "<init>", desc := "()V" } : Jvm.MethodName) object_method_1_code (1 : Nat) (Option.none : Option Jvm.ClassFile.FieldType)) ∈ lw_all := lw_g (lw_at lw_m1 10 rfl) rfl
/-! the law's own entry -/
abbrev cL_law : ByteArray := code
theorem q18 : (Jvm.Cond.initialized "LoadStoreQueueLaw") ∈ lw_all := lw_g (lw_at lw_m1 0 rfl) rfl
theorem q21 : (Jvm.Cond.classLink "LoadStoreQueueLaw" (7 : Nat) "LoadStoreQueue") ∈ lw_all := lw_g (lw_at lw_m1 3 rfl) rfl
theorem q23 : (Jvm.Cond.methodLink "LoadStoreQueueLaw" (9 : Nat) ({ cls := "LoadStoreQueue", name := "<init>", desc := "()V" } : Jvm.MethodName)) ∈ lw_all := lw_g (lw_at lw_m1 5 rfl) rfl
theorem q92 : (Jvm.Cond.methodLink "LoadStoreQueueLaw" (13 : Nat) ({ cls := "LoadStoreQueue", name := "emit", desc := "(IIII)I" } : Jvm.MethodName)) ∈ lw_all := lw_g (lw_at lw_m1 74 rfl) rfl
theorem q100 : (Jvm.Cond.methodLink "LoadStoreQueueLaw" (18 : Nat) ({ cls := "LoadStoreQueue", name := "retract", desc := "()I" } : Jvm.MethodName)) ∈ lw_all := lw_g (lw_at lw_m1 82 rfl) rfl
theorem q104 : (Jvm.Cond.methodLink "LoadStoreQueueLaw" (23 : Nat) ({ cls := "LoadStoreQueue", name := "drop", desc := "()I" } : Jvm.MethodName)) ∈ lw_all := lw_g (lw_at lw_m1 86 rfl) rfl
theorem q108 : (Jvm.Cond.methodLink "LoadStoreQueueLaw" (27 : Nat) ({ cls := "LoadStoreQueue", name := "run", desc := "(I)I" } : Jvm.MethodName)) ∈ lw_all := lw_g (lw_at lw_m1 90 rfl) rfl
theorem q169 : (Jvm.Cond.methodLink "LoadStoreQueueLaw" (32 : Nat) ({ cls := "LoadStoreQueue", name := "fed", desc := "()I" } : Jvm.MethodName)) ∈ lw_all := lw_g (lw_at lw_m1 151 rfl) rfl
theorem q173 : (Jvm.Cond.methodLink "LoadStoreQueueLaw" (36 : Nat) ({ cls := "LoadStoreQueue", name := "written", desc := "()I" } : Jvm.MethodName)) ∈ lw_all := lw_g (lw_at lw_m1 155 rfl) rfl
theorem q177 : (Jvm.Cond.methodLink "LoadStoreQueueLaw" (40 : Nat) ({ cls := "LoadStoreQueue", name := "register", desc := "(I)I" } : Jvm.MethodName)) ∈ lw_all := lw_g (lw_at lw_m1 159 rfl) rfl
theorem q181 : (Jvm.Cond.methodLink "LoadStoreQueueLaw" (44 : Nat) ({ cls := "LoadStoreQueue", name := "setRegister", desc := "(II)Z" } : Jvm.MethodName)) ∈ lw_all := lw_g (lw_at lw_m1 163 rfl) rfl
theorem q185 : (Jvm.Cond.methodLink "LoadStoreQueueLaw" (49 : Nat) ({ cls := "LoadStoreQueue", name := "memory", desc := "(I)I" } : Jvm.MethodName)) ∈ lw_all := lw_g (lw_at lw_m1 167 rfl) rfl
theorem q189 : (Jvm.Cond.methodLink "LoadStoreQueueLaw" (53 : Nat) ({ cls := "LoadStoreQueue", name := "setMemory", desc := "(II)Z" } : Jvm.MethodName)) ∈ lw_all := lw_g (lw_at lw_m1 171 rfl) rfl
theorem q193 : (Jvm.Cond.classLink "LoadStoreQueueLaw" (10 : Nat) "LoadStoreQueueModel") ∈ lw_all := lw_g (lw_at lw_m1 175 rfl) rfl
theorem q195 : (Jvm.Cond.methodLink "LoadStoreQueueLaw" (12 : Nat) ({ cls := "LoadStoreQueueModel", name := "<init>", desc := "()V" } : Jvm.MethodName)) ∈ lw_all := lw_g (lw_at lw_m1 177 rfl) rfl
theorem q228 : (Jvm.Cond.methodLink "LoadStoreQueueLaw" (17 : Nat) ({ cls := "LoadStoreQueueModel", name := "emit", desc := "(IIII)I" } : Jvm.MethodName)) ∈ lw_all := lw_g (lw_at lw_m1 210 rfl) rfl
theorem q236 : (Jvm.Cond.methodLink "LoadStoreQueueLaw" (22 : Nat) ({ cls := "LoadStoreQueueModel", name := "retract", desc := "()I" } : Jvm.MethodName)) ∈ lw_all := lw_g (lw_at lw_m1 218 rfl) rfl
theorem q240 : (Jvm.Cond.methodLink "LoadStoreQueueLaw" (26 : Nat) ({ cls := "LoadStoreQueueModel", name := "drop", desc := "()I" } : Jvm.MethodName)) ∈ lw_all := lw_g (lw_at lw_m1 222 rfl) rfl
theorem q244 : (Jvm.Cond.methodLink "LoadStoreQueueLaw" (31 : Nat) ({ cls := "LoadStoreQueueModel", name := "run", desc := "(I)I" } : Jvm.MethodName)) ∈ lw_all := lw_g (lw_at lw_m1 226 rfl) rfl
theorem q256 : (Jvm.Cond.methodLink "LoadStoreQueueLaw" (35 : Nat) ({ cls := "LoadStoreQueueModel", name := "fed", desc := "()I" } : Jvm.MethodName)) ∈ lw_all := lw_g (lw_at lw_m1 238 rfl) rfl
theorem q260 : (Jvm.Cond.methodLink "LoadStoreQueueLaw" (39 : Nat) ({ cls := "LoadStoreQueueModel", name := "written", desc := "()I" } : Jvm.MethodName)) ∈ lw_all := lw_g (lw_at lw_m2 2 rfl) rfl
theorem q264 : (Jvm.Cond.methodLink "LoadStoreQueueLaw" (43 : Nat) ({ cls := "LoadStoreQueueModel", name := "register", desc := "(I)I" } : Jvm.MethodName)) ∈ lw_all := lw_g (lw_at lw_m2 6 rfl) rfl
theorem q268 : (Jvm.Cond.methodLink "LoadStoreQueueLaw" (48 : Nat) ({ cls := "LoadStoreQueueModel", name := "setRegister", desc := "(II)Z" } : Jvm.MethodName)) ∈ lw_all := lw_g (lw_at lw_m2 10 rfl) rfl
theorem q272 : (Jvm.Cond.methodLink "LoadStoreQueueLaw" (52 : Nat) ({ cls := "LoadStoreQueueModel", name := "memory", desc := "(I)I" } : Jvm.MethodName)) ∈ lw_all := lw_g (lw_at lw_m2 14 rfl) rfl
theorem q276 : (Jvm.Cond.methodLink "LoadStoreQueueLaw" (56 : Nat) ({ cls := "LoadStoreQueueModel", name := "setMemory", desc := "(II)Z" } : Jvm.MethodName)) ∈ lw_all := lw_g (lw_at lw_m2 18 rfl) rfl
theorem q90 : (Jvm.Cond.arrayClass Jvm.ClassFile.FieldType.byte) ∈ lw_all := lw_g (lw_at lw_m1 72 rfl) rfl
theorem q91 : (Jvm.Cond.arrayClass Jvm.ClassFile.FieldType.int) ∈ lw_all := lw_g (lw_at lw_m1 73 rfl) rfl
theorem q227 : (Jvm.Cond.arrayClass Jvm.ClassFile.FieldType.boolean) ∈ lw_all := lw_g (lw_at lw_m1 209 rfl) rfl
end
section
set_option maxRecDepth 100000
theorem dX0_init_0 : decode cX0_init 0 = .ok (.aload_n 0, 1) := by decide +kernel
theorem dX0_init_1 : decode cX0_init 1 = .ok (.invokespecial 1, 3) := by decide +kernel
theorem dX0_init_4 : decode cX0_init 4 = .ok (.aload_n 0, 1) := by decide +kernel
theorem dX0_init_5 : decode cX0_init 5 = .ok (.bipush 20, 2) := by decide +kernel
theorem dX0_init_7 : decode cX0_init 7 = .ok (.newarray .byte, 2) := by decide +kernel
theorem dX0_init_9 : decode cX0_init 9 = .ok (.putfield 7, 3) := by decide +kernel
theorem dX0_init_12 : decode cX0_init 12 = .ok (.aload_n 0, 1) := by decide +kernel
theorem dX0_init_13 : decode cX0_init 13 = .ok (.bipush 20, 2) := by decide +kernel
theorem dX0_init_15 : decode cX0_init 15 = .ok (.newarray .byte, 2) := by decide +kernel
theorem dX0_init_17 : decode cX0_init 17 = .ok (.putfield 13, 3) := by decide +kernel
theorem dX0_init_20 : decode cX0_init 20 = .ok (.aload_n 0, 1) := by decide +kernel
theorem dX0_init_21 : decode cX0_init 21 = .ok (.bipush 20, 2) := by decide +kernel
theorem dX0_init_23 : decode cX0_init 23 = .ok (.newarray .int, 2) := by decide +kernel
theorem dX0_init_25 : decode cX0_init 25 = .ok (.putfield 16, 3) := by decide +kernel
theorem dX0_init_28 : decode cX0_init 28 = .ok (.aload_n 0, 1) := by decide +kernel
theorem dX0_init_29 : decode cX0_init 29 = .ok (.bipush 20, 2) := by decide +kernel
theorem dX0_init_31 : decode cX0_init 31 = .ok (.newarray .int, 2) := by decide +kernel
theorem dX0_init_33 : decode cX0_init 33 = .ok (.putfield 20, 3) := by decide +kernel
theorem dX0_init_36 : decode cX0_init 36 = .ok (.aload_n 0, 1) := by decide +kernel
theorem dX0_init_37 : decode cX0_init 37 = .ok (.bipush 6, 2) := by decide +kernel
theorem dX0_init_39 : decode cX0_init 39 = .ok (.newarray .int, 2) := by decide +kernel
theorem dX0_init_41 : decode cX0_init 41 = .ok (.putfield 23, 3) := by decide +kernel
theorem dX0_init_44 : decode cX0_init 44 = .ok (.aload_n 0, 1) := by decide +kernel
theorem dX0_init_45 : decode cX0_init 45 = .ok (.bipush 16, 2) := by decide +kernel
theorem dX0_init_47 : decode cX0_init 47 = .ok (.newarray .int, 2) := by decide +kernel
theorem dX0_init_49 : decode cX0_init 49 = .ok (.putfield 26, 3) := by decide +kernel
theorem dX0_init_52 : decode cX0_init 52 = .ok (.aload_n 0, 1) := by decide +kernel
theorem dX0_init_53 : decode cX0_init 53 = .ok (.bipush 20, 2) := by decide +kernel
theorem dX0_init_55 : decode cX0_init 55 = .ok (.newarray .byte, 2) := by decide +kernel
theorem dX0_init_57 : decode cX0_init 57 = .ok (.putfield 29, 3) := by decide +kernel
theorem dX0_init_60 : decode cX0_init 60 = .ok (.aload_n 0, 1) := by decide +kernel
theorem dX0_init_61 : decode cX0_init 61 = .ok (.bipush 20, 2) := by decide +kernel
theorem dX0_init_63 : decode cX0_init 63 = .ok (.newarray .byte, 2) := by decide +kernel
theorem dX0_init_65 : decode cX0_init 65 = .ok (.putfield 32, 3) := by decide +kernel
theorem dX0_init_68 : decode cX0_init 68 = .ok (.aload_n 0, 1) := by decide +kernel
theorem dX0_init_69 : decode cX0_init 69 = .ok (.bipush 20, 2) := by decide +kernel
theorem dX0_init_71 : decode cX0_init 71 = .ok (.newarray .byte, 2) := by decide +kernel
theorem dX0_init_73 : decode cX0_init 73 = .ok (.putfield 35, 3) := by decide +kernel
theorem dX0_init_76 : decode cX0_init 76 = .ok (.aload_n 0, 1) := by decide +kernel
theorem dX0_init_77 : decode cX0_init 77 = .ok (.bipush 6, 2) := by decide +kernel
theorem dX0_init_79 : decode cX0_init 79 = .ok (.newarray .byte, 2) := by decide +kernel
theorem dX0_init_81 : decode cX0_init 81 = .ok (.putfield 38, 3) := by decide +kernel
theorem dX0_init_84 : decode cX0_init 84 = .ok (.aload_n 0, 1) := by decide +kernel
theorem dX0_init_85 : decode cX0_init 85 = .ok (.bipush 20, 2) := by decide +kernel
theorem dX0_init_87 : decode cX0_init 87 = .ok (.newarray .byte, 2) := by decide +kernel
theorem dX0_init_89 : decode cX0_init 89 = .ok (.putfield 41, 3) := by decide +kernel
theorem dX0_init_92 : decode cX0_init 92 = .ok (.aload_n 0, 1) := by decide +kernel
theorem dX0_init_93 : decode cX0_init 93 = .ok (.bipush 20, 2) := by decide +kernel
theorem dX0_init_95 : decode cX0_init 95 = .ok (.newarray .byte, 2) := by decide +kernel
theorem dX0_init_97 : decode cX0_init 97 = .ok (.putfield 44, 3) := by decide +kernel
theorem dX0_init_100 : decode cX0_init 100 = .ok (.aload_n 0, 1) := by decide +kernel
theorem dX0_init_101 : decode cX0_init 101 = .ok (.bipush 20, 2) := by decide +kernel
theorem dX0_init_103 : decode cX0_init 103 = .ok (.newarray .int, 2) := by decide +kernel
theorem dX0_init_105 : decode cX0_init 105 = .ok (.putfield 47, 3) := by decide +kernel
theorem dX0_init_108 : decode cX0_init 108 = .ok (.aload_n 0, 1) := by decide +kernel
theorem dX0_init_109 : decode cX0_init 109 = .ok (.bipush 20, 2) := by decide +kernel
theorem dX0_init_111 : decode cX0_init 111 = .ok (.newarray .byte, 2) := by decide +kernel
theorem dX0_init_113 : decode cX0_init 113 = .ok (.putfield 50, 3) := by decide +kernel
theorem dX0_init_116 : decode cX0_init 116 = .ok (.aload_n 0, 1) := by decide +kernel
theorem dX0_init_117 : decode cX0_init 117 = .ok (.bipush 20, 2) := by decide +kernel
theorem dX0_init_119 : decode cX0_init 119 = .ok (.newarray .byte, 2) := by decide +kernel
theorem dX0_init_121 : decode cX0_init 121 = .ok (.putfield 53, 3) := by decide +kernel
theorem dX0_init_124 : decode cX0_init 124 = .ok (.return_, 1) := by decide +kernel
theorem dX0_emit_0 : decode cX0_emit 0 = .ok (.aload_n 0, 1) := by decide +kernel
theorem dX0_emit_1 : decode cX0_emit 1 = .ok (.getfield 56, 3) := by decide +kernel
theorem dX0_emit_4 : decode cX0_emit 4 = .ok (.bipush 20, 2) := by decide +kernel
theorem dX0_emit_6 : decode cX0_emit 6 = .ok (.if_icmp .lt 6, 3) := by decide +kernel
theorem dX0_emit_9 : decode cX0_emit 9 = .ok (.bipush (-2), 2) := by decide +kernel
theorem dX0_emit_11 : decode cX0_emit 11 = .ok (.ireturn, 1) := by decide +kernel
theorem dX0_emit_12 : decode cX0_emit 12 = .ok (.iload_n 1, 1) := by decide +kernel
theorem dX0_emit_13 : decode cX0_emit 13 = .ok (.ifCond .lt 29, 3) := by decide +kernel
theorem dX0_emit_16 : decode cX0_emit 16 = .ok (.iload_n 1, 1) := by decide +kernel
theorem dX0_emit_17 : decode cX0_emit 17 = .ok (.bipush 6, 2) := by decide +kernel
theorem dX0_emit_19 : decode cX0_emit 19 = .ok (.if_icmp .gt 23, 3) := by decide +kernel
theorem dX0_emit_22 : decode cX0_emit 22 = .ok (.aload_n 0, 1) := by decide +kernel
theorem dX0_emit_23 : decode cX0_emit 23 = .ok (.iload_n 2, 1) := by decide +kernel
theorem dX0_emit_24 : decode cX0_emit 24 = .ok (.invokevirtual 60, 3) := by decide +kernel
theorem dX0_emit_27 : decode cX0_emit 27 = .ok (.ifCond .eq 15, 3) := by decide +kernel
theorem dX0_emit_30 : decode cX0_emit 30 = .ok (.iload_n 1, 1) := by decide +kernel
theorem dX0_emit_31 : decode cX0_emit 31 = .ok (.ifCond .eq 13, 3) := by decide +kernel
theorem dX0_emit_34 : decode cX0_emit 34 = .ok (.aload_n 0, 1) := by decide +kernel
theorem dX0_emit_35 : decode cX0_emit 35 = .ok (.iload_n 3, 1) := by decide +kernel
theorem dX0_emit_36 : decode cX0_emit 36 = .ok (.invokevirtual 60, 3) := by decide +kernel
theorem dX0_emit_39 : decode cX0_emit 39 = .ok (.ifCond .ne 5, 3) := by decide +kernel
theorem dX0_emit_42 : decode cX0_emit 42 = .ok (.iconst (-1), 1) := by decide +kernel
theorem dX0_emit_43 : decode cX0_emit 43 = .ok (.ireturn, 1) := by decide +kernel
theorem dX0_emit_44 : decode cX0_emit 44 = .ok (.iload_n 1, 1) := by decide +kernel
theorem dX0_emit_45 : decode cX0_emit 45 = .ok (.bipush 6, 2) := by decide +kernel
theorem dX0_emit_47 : decode cX0_emit 47 = .ok (.if_icmp .eq 13, 3) := by decide +kernel
theorem dX0_emit_50 : decode cX0_emit 50 = .ok (.iload_n 1, 1) := by decide +kernel
theorem dX0_emit_51 : decode cX0_emit 51 = .ok (.iconst 1, 1) := by decide +kernel
theorem dX0_emit_52 : decode cX0_emit 52 = .ok (.if_icmp .lt 12, 3) := by decide +kernel
theorem dX0_emit_55 : decode cX0_emit 55 = .ok (.iload_n 1, 1) := by decide +kernel
theorem dX0_emit_56 : decode cX0_emit 56 = .ok (.iconst 3, 1) := by decide +kernel
theorem dX0_emit_57 : decode cX0_emit 57 = .ok (.if_icmp .gt 7, 3) := by decide +kernel
theorem dX0_emit_60 : decode cX0_emit 60 = .ok (.iconst 1, 1) := by decide +kernel
theorem dX0_emit_61 : decode cX0_emit 61 = .ok (.goto 4, 3) := by decide +kernel
theorem dX0_emit_64 : decode cX0_emit 64 = .ok (.iconst 0, 1) := by decide +kernel
theorem dX0_emit_65 : decode cX0_emit 65 = .ok (.istore 5, 2) := by decide +kernel
theorem dX0_emit_67 : decode cX0_emit 67 = .ok (.iload 5, 2) := by decide +kernel
theorem dX0_emit_69 : decode cX0_emit 69 = .ok (.ifCond .eq 14, 3) := by decide +kernel
theorem dX0_emit_72 : decode cX0_emit 72 = .ok (.aload_n 0, 1) := by decide +kernel
theorem dX0_emit_73 : decode cX0_emit 73 = .ok (.iload 4, 2) := by decide +kernel
theorem dX0_emit_75 : decode cX0_emit 75 = .ok (.invokevirtual 60, 3) := by decide +kernel
theorem dX0_emit_78 : decode cX0_emit 78 = .ok (.ifCond .ne 5, 3) := by decide +kernel
theorem dX0_emit_81 : decode cX0_emit 81 = .ok (.iconst (-1), 1) := by decide +kernel
theorem dX0_emit_82 : decode cX0_emit 82 = .ok (.ireturn, 1) := by decide +kernel
theorem dX0_emit_83 : decode cX0_emit 83 = .ok (.aload_n 0, 1) := by decide +kernel
theorem dX0_emit_84 : decode cX0_emit 84 = .ok (.getfield 7, 3) := by decide +kernel
theorem dX0_emit_87 : decode cX0_emit 87 = .ok (.aload_n 0, 1) := by decide +kernel
theorem dX0_emit_88 : decode cX0_emit 88 = .ok (.getfield 56, 3) := by decide +kernel
theorem dX0_emit_91 : decode cX0_emit 91 = .ok (.iload_n 1, 1) := by decide +kernel
theorem dX0_emit_92 : decode cX0_emit 92 = .ok (.i2b, 1) := by decide +kernel
theorem dX0_emit_93 : decode cX0_emit 93 = .ok (.bastore, 1) := by decide +kernel
theorem dX0_emit_94 : decode cX0_emit 94 = .ok (.aload_n 0, 1) := by decide +kernel
theorem dX0_emit_95 : decode cX0_emit 95 = .ok (.getfield 13, 3) := by decide +kernel
theorem dX0_emit_98 : decode cX0_emit 98 = .ok (.aload_n 0, 1) := by decide +kernel
theorem dX0_emit_99 : decode cX0_emit 99 = .ok (.getfield 56, 3) := by decide +kernel
theorem dX0_emit_102 : decode cX0_emit 102 = .ok (.iload_n 2, 1) := by decide +kernel
theorem dX0_emit_103 : decode cX0_emit 103 = .ok (.i2b, 1) := by decide +kernel
theorem dX0_emit_104 : decode cX0_emit 104 = .ok (.bastore, 1) := by decide +kernel
theorem dX0_emit_105 : decode cX0_emit 105 = .ok (.aload_n 0, 1) := by decide +kernel
theorem dX0_emit_106 : decode cX0_emit 106 = .ok (.getfield 16, 3) := by decide +kernel
theorem dX0_emit_109 : decode cX0_emit 109 = .ok (.aload_n 0, 1) := by decide +kernel
theorem dX0_emit_110 : decode cX0_emit 110 = .ok (.getfield 56, 3) := by decide +kernel
theorem dX0_emit_113 : decode cX0_emit 113 = .ok (.iload_n 3, 1) := by decide +kernel
theorem dX0_emit_114 : decode cX0_emit 114 = .ok (.iastore, 1) := by decide +kernel
theorem dX0_emit_115 : decode cX0_emit 115 = .ok (.aload_n 0, 1) := by decide +kernel
theorem dX0_emit_116 : decode cX0_emit 116 = .ok (.getfield 20, 3) := by decide +kernel
theorem dX0_emit_119 : decode cX0_emit 119 = .ok (.aload_n 0, 1) := by decide +kernel
theorem dX0_emit_120 : decode cX0_emit 120 = .ok (.getfield 56, 3) := by decide +kernel
theorem dX0_emit_123 : decode cX0_emit 123 = .ok (.iload 4, 2) := by decide +kernel
theorem dX0_emit_125 : decode cX0_emit 125 = .ok (.iastore, 1) := by decide +kernel
theorem dX0_emit_126 : decode cX0_emit 126 = .ok (.aload_n 0, 1) := by decide +kernel
theorem dX0_emit_127 : decode cX0_emit 127 = .ok (.dup, 1) := by decide +kernel
theorem dX0_emit_128 : decode cX0_emit 128 = .ok (.getfield 56, 3) := by decide +kernel
theorem dX0_emit_131 : decode cX0_emit 131 = .ok (.iconst 1, 1) := by decide +kernel
theorem dX0_emit_132 : decode cX0_emit 132 = .ok (.iadd, 1) := by decide +kernel
theorem dX0_emit_133 : decode cX0_emit 133 = .ok (.putfield 56, 3) := by decide +kernel
theorem dX0_emit_136 : decode cX0_emit 136 = .ok (.aload_n 0, 1) := by decide +kernel
theorem dX0_emit_137 : decode cX0_emit 137 = .ok (.getfield 56, 3) := by decide +kernel
theorem dX0_emit_140 : decode cX0_emit 140 = .ok (.ireturn, 1) := by decide +kernel
theorem dX0_isRegister_0 : decode cX0_isRegister 0 = .ok (.iload_n 1, 1) := by decide +kernel
theorem dX0_isRegister_1 : decode cX0_isRegister 1 = .ok (.ifCond .lt 12, 3) := by decide +kernel
theorem dX0_isRegister_4 : decode cX0_isRegister 4 = .ok (.iload_n 1, 1) := by decide +kernel
theorem dX0_isRegister_5 : decode cX0_isRegister 5 = .ok (.iconst 5, 1) := by decide +kernel
theorem dX0_isRegister_6 : decode cX0_isRegister 6 = .ok (.if_icmp .gt 7, 3) := by decide +kernel
theorem dX0_isRegister_9 : decode cX0_isRegister 9 = .ok (.iconst 1, 1) := by decide +kernel
theorem dX0_isRegister_10 : decode cX0_isRegister 10 = .ok (.goto 4, 3) := by decide +kernel
theorem dX0_isRegister_13 : decode cX0_isRegister 13 = .ok (.iconst 0, 1) := by decide +kernel
theorem dX0_isRegister_14 : decode cX0_isRegister 14 = .ok (.ireturn, 1) := by decide +kernel
theorem dX0_retract_0 : decode cX0_retract 0 = .ok (.aload_n 0, 1) := by decide +kernel
theorem dX0_retract_1 : decode cX0_retract 1 = .ok (.getfield 56, 3) := by decide +kernel
theorem dX0_retract_4 : decode cX0_retract 4 = .ok (.ifCond .ne 5, 3) := by decide +kernel
theorem dX0_retract_7 : decode cX0_retract 7 = .ok (.iconst (-1), 1) := by decide +kernel
theorem dX0_retract_8 : decode cX0_retract 8 = .ok (.ireturn, 1) := by decide +kernel
theorem dX0_retract_9 : decode cX0_retract 9 = .ok (.aload_n 0, 1) := by decide +kernel
theorem dX0_retract_10 : decode cX0_retract 10 = .ok (.dup, 1) := by decide +kernel
theorem dX0_retract_11 : decode cX0_retract 11 = .ok (.getfield 56, 3) := by decide +kernel
theorem dX0_retract_14 : decode cX0_retract 14 = .ok (.iconst 1, 1) := by decide +kernel
theorem dX0_retract_15 : decode cX0_retract 15 = .ok (.isub, 1) := by decide +kernel
theorem dX0_retract_16 : decode cX0_retract 16 = .ok (.putfield 56, 3) := by decide +kernel
theorem dX0_retract_19 : decode cX0_retract 19 = .ok (.aload_n 0, 1) := by decide +kernel
theorem dX0_retract_20 : decode cX0_retract 20 = .ok (.getfield 56, 3) := by decide +kernel
theorem dX0_retract_23 : decode cX0_retract 23 = .ok (.ireturn, 1) := by decide +kernel
theorem dX0_drop_0 : decode cX0_drop 0 = .ok (.aload_n 0, 1) := by decide +kernel
theorem dX0_drop_1 : decode cX0_drop 1 = .ok (.getfield 56, 3) := by decide +kernel
theorem dX0_drop_4 : decode cX0_drop 4 = .ok (.istore_n 1, 1) := by decide +kernel
theorem dX0_drop_5 : decode cX0_drop 5 = .ok (.aload_n 0, 1) := by decide +kernel
theorem dX0_drop_6 : decode cX0_drop 6 = .ok (.iconst 0, 1) := by decide +kernel
theorem dX0_drop_7 : decode cX0_drop 7 = .ok (.putfield 56, 3) := by decide +kernel
theorem dX0_drop_10 : decode cX0_drop 10 = .ok (.iload_n 1, 1) := by decide +kernel
theorem dX0_drop_11 : decode cX0_drop 11 = .ok (.ireturn, 1) := by decide +kernel
theorem dX0_run_0 : decode cX0_run 0 = .ok (.aload_n 0, 1) := by decide +kernel
theorem dX0_run_1 : decode cX0_run 1 = .ok (.iload_n 1, 1) := by decide +kernel
theorem dX0_run_2 : decode cX0_run 2 = .ok (.putfield 64, 3) := by decide +kernel
theorem dX0_run_5 : decode cX0_run 5 = .ok (.aload_n 0, 1) := by decide +kernel
theorem dX0_run_6 : decode cX0_run 6 = .ok (.iconst 0, 1) := by decide +kernel
theorem dX0_run_7 : decode cX0_run 7 = .ok (.putfield 67, 3) := by decide +kernel
theorem dX0_run_10 : decode cX0_run 10 = .ok (.aload_n 0, 1) := by decide +kernel
theorem dX0_run_11 : decode cX0_run 11 = .ok (.iconst 0, 1) := by decide +kernel
theorem dX0_run_12 : decode cX0_run 12 = .ok (.putfield 70, 3) := by decide +kernel
theorem dX0_run_15 : decode cX0_run 15 = .ok (.aload_n 0, 1) := by decide +kernel
theorem dX0_run_16 : decode cX0_run 16 = .ok (.invokevirtual 73, 3) := by decide +kernel
theorem dX0_run_19 : decode cX0_run 19 = .ok (.iconst 0, 1) := by decide +kernel
theorem dX0_run_20 : decode cX0_run 20 = .ok (.istore_n 2, 1) := by decide +kernel
theorem dX0_run_21 : decode cX0_run 21 = .ok (.iload_n 2, 1) := by decide +kernel
theorem dX0_run_22 : decode cX0_run 22 = .ok (.aload_n 0, 1) := by decide +kernel
theorem dX0_run_23 : decode cX0_run 23 = .ok (.getfield 56, 3) := by decide +kernel
theorem dX0_run_26 : decode cX0_run 26 = .ok (.if_icmp .ge 14, 3) := by decide +kernel
theorem dX0_run_29 : decode cX0_run 29 = .ok (.aload_n 0, 1) := by decide +kernel
theorem dX0_run_30 : decode cX0_run 30 = .ok (.iload_n 2, 1) := by decide +kernel
theorem dX0_run_31 : decode cX0_run 31 = .ok (.invokevirtual 76, 3) := by decide +kernel
theorem dX0_run_34 : decode cX0_run 34 = .ok (.iinc 2 1, 3) := by decide +kernel
theorem dX0_run_37 : decode cX0_run 37 = .ok (.goto (-16), 3) := by decide +kernel
theorem dX0_run_40 : decode cX0_run 40 = .ok (.aload_n 0, 1) := by decide +kernel
theorem dX0_run_41 : decode cX0_run 41 = .ok (.iconst 0, 1) := by decide +kernel
theorem dX0_run_42 : decode cX0_run 42 = .ok (.putfield 80, 3) := by decide +kernel
theorem dX0_run_45 : decode cX0_run 45 = .ok (.aload_n 0, 1) := by decide +kernel
theorem dX0_run_46 : decode cX0_run 46 = .ok (.getfield 80, 3) := by decide +kernel
theorem dX0_run_49 : decode cX0_run 49 = .ok (.aload_n 0, 1) := by decide +kernel
theorem dX0_run_50 : decode cX0_run 50 = .ok (.getfield 56, 3) := by decide +kernel
theorem dX0_run_53 : decode cX0_run 53 = .ok (.if_icmp .ge 58, 3) := by decide +kernel
theorem dX0_run_56 : decode cX0_run 56 = .ok (.aload_n 0, 1) := by decide +kernel
theorem dX0_run_57 : decode cX0_run 57 = .ok (.getfield 80, 3) := by decide +kernel
theorem dX0_run_60 : decode cX0_run 60 = .ok (.istore_n 2, 1) := by decide +kernel
theorem dX0_run_61 : decode cX0_run 61 = .ok (.iload_n 2, 1) := by decide +kernel
theorem dX0_run_62 : decode cX0_run 62 = .ok (.aload_n 0, 1) := by decide +kernel
theorem dX0_run_63 : decode cX0_run 63 = .ok (.getfield 56, 3) := by decide +kernel
theorem dX0_run_66 : decode cX0_run 66 = .ok (.if_icmp .ge 14, 3) := by decide +kernel
theorem dX0_run_69 : decode cX0_run 69 = .ok (.aload_n 0, 1) := by decide +kernel
theorem dX0_run_70 : decode cX0_run 70 = .ok (.iload_n 2, 1) := by decide +kernel
theorem dX0_run_71 : decode cX0_run 71 = .ok (.invokevirtual 83, 3) := by decide +kernel
theorem dX0_run_74 : decode cX0_run 74 = .ok (.iinc 2 1, 3) := by decide +kernel
theorem dX0_run_77 : decode cX0_run 77 = .ok (.goto (-16), 3) := by decide +kernel
theorem dX0_run_80 : decode cX0_run 80 = .ok (.aload_n 0, 1) := by decide +kernel
theorem dX0_run_81 : decode cX0_run 81 = .ok (.getfield 80, 3) := by decide +kernel
theorem dX0_run_84 : decode cX0_run 84 = .ok (.aload_n 0, 1) := by decide +kernel
theorem dX0_run_85 : decode cX0_run 85 = .ok (.getfield 56, 3) := by decide +kernel
theorem dX0_run_88 : decode cX0_run 88 = .ok (.if_icmp .ge (-43), 3) := by decide +kernel
theorem dX0_run_91 : decode cX0_run 91 = .ok (.aload_n 0, 1) := by decide +kernel
theorem dX0_run_92 : decode cX0_run 92 = .ok (.getfield 41, 3) := by decide +kernel
theorem dX0_run_95 : decode cX0_run 95 = .ok (.aload_n 0, 1) := by decide +kernel
theorem dX0_run_96 : decode cX0_run 96 = .ok (.getfield 80, 3) := by decide +kernel
theorem dX0_run_99 : decode cX0_run 99 = .ok (.baload, 1) := by decide +kernel
theorem dX0_run_100 : decode cX0_run 100 = .ok (.iconst 2, 1) := by decide +kernel
theorem dX0_run_101 : decode cX0_run 101 = .ok (.if_icmp .ne (-56), 3) := by decide +kernel
theorem dX0_run_104 : decode cX0_run 104 = .ok (.aload_n 0, 1) := by decide +kernel
theorem dX0_run_105 : decode cX0_run 105 = .ok (.invokevirtual 86, 3) := by decide +kernel
theorem dX0_run_108 : decode cX0_run 108 = .ok (.goto (-28), 3) := by decide +kernel
theorem dX0_run_111 : decode cX0_run 111 = .ok (.aload_n 0, 1) := by decide +kernel
theorem dX0_run_112 : decode cX0_run 112 = .ok (.getfield 56, 3) := by decide +kernel
theorem dX0_run_115 : decode cX0_run 115 = .ok (.ireturn, 1) := by decide +kernel
theorem dX0_findGivers_0 : decode cX0_findGivers 0 = .ok (.iconst 0, 1) := by decide +kernel
theorem dX0_findGivers_1 : decode cX0_findGivers 1 = .ok (.istore_n 1, 1) := by decide +kernel
theorem dX0_findGivers_2 : decode cX0_findGivers 2 = .ok (.iload_n 1, 1) := by decide +kernel
theorem dX0_findGivers_3 : decode cX0_findGivers 3 = .ok (.bipush 6, 2) := by decide +kernel
theorem dX0_findGivers_5 : decode cX0_findGivers 5 = .ok (.if_icmp .ge 16, 3) := by decide +kernel
theorem dX0_findGivers_8 : decode cX0_findGivers 8 = .ok (.aload_n 0, 1) := by decide +kernel
theorem dX0_findGivers_9 : decode cX0_findGivers 9 = .ok (.getfield 38, 3) := by decide +kernel
theorem dX0_findGivers_12 : decode cX0_findGivers 12 = .ok (.iload_n 1, 1) := by decide +kernel
theorem dX0_findGivers_13 : decode cX0_findGivers 13 = .ok (.iconst (-1), 1) := by decide +kernel
theorem dX0_findGivers_14 : decode cX0_findGivers 14 = .ok (.bastore, 1) := by decide +kernel
theorem dX0_findGivers_15 : decode cX0_findGivers 15 = .ok (.iinc 1 1, 3) := by decide +kernel
theorem dX0_findGivers_18 : decode cX0_findGivers 18 = .ok (.goto (-16), 3) := by decide +kernel
theorem dX0_findGivers_21 : decode cX0_findGivers 21 = .ok (.iconst 0, 1) := by decide +kernel
theorem dX0_findGivers_22 : decode cX0_findGivers 22 = .ok (.istore_n 1, 1) := by decide +kernel
theorem dX0_findGivers_23 : decode cX0_findGivers 23 = .ok (.iload_n 1, 1) := by decide +kernel
theorem dX0_findGivers_24 : decode cX0_findGivers 24 = .ok (.aload_n 0, 1) := by decide +kernel
theorem dX0_findGivers_25 : decode cX0_findGivers 25 = .ok (.getfield 56, 3) := by decide +kernel
theorem dX0_findGivers_28 : decode cX0_findGivers 28 = .ok (.if_icmp .ge 108, 3) := by decide +kernel
theorem dX0_findGivers_31 : decode cX0_findGivers 31 = .ok (.aload_n 0, 1) := by decide +kernel
theorem dX0_findGivers_32 : decode cX0_findGivers 32 = .ok (.getfield 29, 3) := by decide +kernel
theorem dX0_findGivers_35 : decode cX0_findGivers 35 = .ok (.iload_n 1, 1) := by decide +kernel
theorem dX0_findGivers_36 : decode cX0_findGivers 36 = .ok (.aload_n 0, 1) := by decide +kernel
theorem dX0_findGivers_37 : decode cX0_findGivers 37 = .ok (.getfield 38, 3) := by decide +kernel
theorem dX0_findGivers_40 : decode cX0_findGivers 40 = .ok (.aload_n 0, 1) := by decide +kernel
theorem dX0_findGivers_41 : decode cX0_findGivers 41 = .ok (.getfield 13, 3) := by decide +kernel
theorem dX0_findGivers_44 : decode cX0_findGivers 44 = .ok (.iload_n 1, 1) := by decide +kernel
theorem dX0_findGivers_45 : decode cX0_findGivers 45 = .ok (.baload, 1) := by decide +kernel
theorem dX0_findGivers_46 : decode cX0_findGivers 46 = .ok (.baload, 1) := by decide +kernel
theorem dX0_findGivers_47 : decode cX0_findGivers 47 = .ok (.bastore, 1) := by decide +kernel
theorem dX0_findGivers_48 : decode cX0_findGivers 48 = .ok (.aload_n 0, 1) := by decide +kernel
theorem dX0_findGivers_49 : decode cX0_findGivers 49 = .ok (.getfield 32, 3) := by decide +kernel
theorem dX0_findGivers_52 : decode cX0_findGivers 52 = .ok (.iload_n 1, 1) := by decide +kernel
theorem dX0_findGivers_53 : decode cX0_findGivers 53 = .ok (.aload_n 0, 1) := by decide +kernel
theorem dX0_findGivers_54 : decode cX0_findGivers 54 = .ok (.getfield 7, 3) := by decide +kernel
theorem dX0_findGivers_57 : decode cX0_findGivers 57 = .ok (.iload_n 1, 1) := by decide +kernel
theorem dX0_findGivers_58 : decode cX0_findGivers 58 = .ok (.baload, 1) := by decide +kernel
theorem dX0_findGivers_59 : decode cX0_findGivers 59 = .ok (.ifCond .ne 7, 3) := by decide +kernel
theorem dX0_findGivers_62 : decode cX0_findGivers 62 = .ok (.iconst (-1), 1) := by decide +kernel
theorem dX0_findGivers_63 : decode cX0_findGivers 63 = .ok (.goto 14, 3) := by decide +kernel
theorem dX0_findGivers_66 : decode cX0_findGivers 66 = .ok (.aload_n 0, 1) := by decide +kernel
theorem dX0_findGivers_67 : decode cX0_findGivers 67 = .ok (.getfield 38, 3) := by decide +kernel
theorem dX0_findGivers_70 : decode cX0_findGivers 70 = .ok (.aload_n 0, 1) := by decide +kernel
theorem dX0_findGivers_71 : decode cX0_findGivers 71 = .ok (.getfield 16, 3) := by decide +kernel
theorem dX0_findGivers_74 : decode cX0_findGivers 74 = .ok (.iload_n 1, 1) := by decide +kernel
theorem dX0_findGivers_75 : decode cX0_findGivers 75 = .ok (.iaload, 1) := by decide +kernel
theorem dX0_findGivers_76 : decode cX0_findGivers 76 = .ok (.baload, 1) := by decide +kernel
theorem dX0_findGivers_77 : decode cX0_findGivers 77 = .ok (.bastore, 1) := by decide +kernel
theorem dX0_findGivers_78 : decode cX0_findGivers 78 = .ok (.aload_n 0, 1) := by decide +kernel
theorem dX0_findGivers_79 : decode cX0_findGivers 79 = .ok (.getfield 35, 3) := by decide +kernel
theorem dX0_findGivers_82 : decode cX0_findGivers 82 = .ok (.iload_n 1, 1) := by decide +kernel
theorem dX0_findGivers_83 : decode cX0_findGivers 83 = .ok (.aload_n 0, 1) := by decide +kernel
theorem dX0_findGivers_84 : decode cX0_findGivers 84 = .ok (.iload_n 1, 1) := by decide +kernel
theorem dX0_findGivers_85 : decode cX0_findGivers 85 = .ok (.invokevirtual 89, 3) := by decide +kernel
theorem dX0_findGivers_88 : decode cX0_findGivers 88 = .ok (.ifCond .eq 17, 3) := by decide +kernel
theorem dX0_findGivers_91 : decode cX0_findGivers 91 = .ok (.aload_n 0, 1) := by decide +kernel
theorem dX0_findGivers_92 : decode cX0_findGivers 92 = .ok (.getfield 38, 3) := by decide +kernel
theorem dX0_findGivers_95 : decode cX0_findGivers 95 = .ok (.aload_n 0, 1) := by decide +kernel
theorem dX0_findGivers_96 : decode cX0_findGivers 96 = .ok (.getfield 20, 3) := by decide +kernel
theorem dX0_findGivers_99 : decode cX0_findGivers 99 = .ok (.iload_n 1, 1) := by decide +kernel
theorem dX0_findGivers_100 : decode cX0_findGivers 100 = .ok (.iaload, 1) := by decide +kernel
theorem dX0_findGivers_101 : decode cX0_findGivers 101 = .ok (.baload, 1) := by decide +kernel
theorem dX0_findGivers_102 : decode cX0_findGivers 102 = .ok (.goto 4, 3) := by decide +kernel
theorem dX0_findGivers_105 : decode cX0_findGivers 105 = .ok (.iconst (-1), 1) := by decide +kernel
theorem dX0_findGivers_106 : decode cX0_findGivers 106 = .ok (.bastore, 1) := by decide +kernel
theorem dX0_findGivers_107 : decode cX0_findGivers 107 = .ok (.aload_n 0, 1) := by decide +kernel
theorem dX0_findGivers_108 : decode cX0_findGivers 108 = .ok (.getfield 7, 3) := by decide +kernel
theorem dX0_findGivers_111 : decode cX0_findGivers 111 = .ok (.iload_n 1, 1) := by decide +kernel
theorem dX0_findGivers_112 : decode cX0_findGivers 112 = .ok (.baload, 1) := by decide +kernel
theorem dX0_findGivers_113 : decode cX0_findGivers 113 = .ok (.iconst 5, 1) := by decide +kernel
theorem dX0_findGivers_114 : decode cX0_findGivers 114 = .ok (.if_icmp .eq 16, 3) := by decide +kernel
theorem dX0_findGivers_117 : decode cX0_findGivers 117 = .ok (.aload_n 0, 1) := by decide +kernel
theorem dX0_findGivers_118 : decode cX0_findGivers 118 = .ok (.getfield 38, 3) := by decide +kernel
theorem dX0_findGivers_121 : decode cX0_findGivers 121 = .ok (.aload_n 0, 1) := by decide +kernel
theorem dX0_findGivers_122 : decode cX0_findGivers 122 = .ok (.getfield 13, 3) := by decide +kernel
theorem dX0_findGivers_125 : decode cX0_findGivers 125 = .ok (.iload_n 1, 1) := by decide +kernel
theorem dX0_findGivers_126 : decode cX0_findGivers 126 = .ok (.baload, 1) := by decide +kernel
theorem dX0_findGivers_127 : decode cX0_findGivers 127 = .ok (.iload_n 1, 1) := by decide +kernel
theorem dX0_findGivers_128 : decode cX0_findGivers 128 = .ok (.i2b, 1) := by decide +kernel
theorem dX0_findGivers_129 : decode cX0_findGivers 129 = .ok (.bastore, 1) := by decide +kernel
end
section
set_option maxRecDepth 100000
theorem dX0_findGivers_130 : decode cX0_findGivers 130 = .ok (.iinc 1 1, 3) := by decide +kernel
theorem dX0_findGivers_133 : decode cX0_findGivers 133 = .ok (.goto (-110), 3) := by decide +kernel
theorem dX0_findGivers_136 : decode cX0_findGivers 136 = .ok (.return_, 1) := by decide +kernel
theorem dX0_hasThree_0 : decode cX0_hasThree 0 = .ok (.aload_n 0, 1) := by decide +kernel
theorem dX0_hasThree_1 : decode cX0_hasThree 1 = .ok (.getfield 7, 3) := by decide +kernel
theorem dX0_hasThree_4 : decode cX0_hasThree 4 = .ok (.iload_n 1, 1) := by decide +kernel
theorem dX0_hasThree_5 : decode cX0_hasThree 5 = .ok (.baload, 1) := by decide +kernel
theorem dX0_hasThree_6 : decode cX0_hasThree 6 = .ok (.bipush 6, 2) := by decide +kernel
theorem dX0_hasThree_8 : decode cX0_hasThree 8 = .ok (.if_icmp .eq 23, 3) := by decide +kernel
theorem dX0_hasThree_11 : decode cX0_hasThree 11 = .ok (.aload_n 0, 1) := by decide +kernel
theorem dX0_hasThree_12 : decode cX0_hasThree 12 = .ok (.getfield 7, 3) := by decide +kernel
theorem dX0_hasThree_15 : decode cX0_hasThree 15 = .ok (.iload_n 1, 1) := by decide +kernel
theorem dX0_hasThree_16 : decode cX0_hasThree 16 = .ok (.baload, 1) := by decide +kernel
theorem dX0_hasThree_17 : decode cX0_hasThree 17 = .ok (.iconst 1, 1) := by decide +kernel
theorem dX0_hasThree_18 : decode cX0_hasThree 18 = .ok (.if_icmp .lt 17, 3) := by decide +kernel
theorem dX0_hasThree_21 : decode cX0_hasThree 21 = .ok (.aload_n 0, 1) := by decide +kernel
theorem dX0_hasThree_22 : decode cX0_hasThree 22 = .ok (.getfield 7, 3) := by decide +kernel
theorem dX0_hasThree_25 : decode cX0_hasThree 25 = .ok (.iload_n 1, 1) := by decide +kernel
theorem dX0_hasThree_26 : decode cX0_hasThree 26 = .ok (.baload, 1) := by decide +kernel
theorem dX0_hasThree_27 : decode cX0_hasThree 27 = .ok (.iconst 3, 1) := by decide +kernel
theorem dX0_hasThree_28 : decode cX0_hasThree 28 = .ok (.if_icmp .gt 7, 3) := by decide +kernel
theorem dX0_hasThree_31 : decode cX0_hasThree 31 = .ok (.iconst 1, 1) := by decide +kernel
theorem dX0_hasThree_32 : decode cX0_hasThree 32 = .ok (.goto 4, 3) := by decide +kernel
theorem dX0_hasThree_35 : decode cX0_hasThree 35 = .ok (.iconst 0, 1) := by decide +kernel
theorem dX0_hasThree_36 : decode cX0_hasThree 36 = .ok (.ireturn, 1) := by decide +kernel
theorem dX0_setBack_0 : decode cX0_setBack 0 = .ok (.aload_n 0, 1) := by decide +kernel
theorem dX0_setBack_1 : decode cX0_setBack 1 = .ok (.getfield 41, 3) := by decide +kernel
theorem dX0_setBack_4 : decode cX0_setBack 4 = .ok (.iload_n 1, 1) := by decide +kernel
theorem dX0_setBack_5 : decode cX0_setBack 5 = .ok (.iconst 0, 1) := by decide +kernel
theorem dX0_setBack_6 : decode cX0_setBack 6 = .ok (.bastore, 1) := by decide +kernel
theorem dX0_setBack_7 : decode cX0_setBack 7 = .ok (.aload_n 0, 1) := by decide +kernel
theorem dX0_setBack_8 : decode cX0_setBack 8 = .ok (.getfield 50, 3) := by decide +kernel
theorem dX0_setBack_11 : decode cX0_setBack 11 = .ok (.iload_n 1, 1) := by decide +kernel
theorem dX0_setBack_12 : decode cX0_setBack 12 = .ok (.iconst (-1), 1) := by decide +kernel
theorem dX0_setBack_13 : decode cX0_setBack 13 = .ok (.bastore, 1) := by decide +kernel
theorem dX0_setBack_14 : decode cX0_setBack 14 = .ok (.aload_n 0, 1) := by decide +kernel
theorem dX0_setBack_15 : decode cX0_setBack 15 = .ok (.getfield 53, 3) := by decide +kernel
theorem dX0_setBack_18 : decode cX0_setBack 18 = .ok (.iload_n 1, 1) := by decide +kernel
theorem dX0_setBack_19 : decode cX0_setBack 19 = .ok (.iconst (-1), 1) := by decide +kernel
theorem dX0_setBack_20 : decode cX0_setBack 20 = .ok (.bastore, 1) := by decide +kernel
theorem dX0_setBack_21 : decode cX0_setBack 21 = .ok (.return_, 1) := by decide +kernel
theorem dX0_advance_0 : decode cX0_advance 0 = .ok (.aload_n 0, 1) := by decide +kernel
theorem dX0_advance_1 : decode cX0_advance 1 = .ok (.getfield 41, 3) := by decide +kernel
theorem dX0_advance_4 : decode cX0_advance 4 = .ok (.iload_n 1, 1) := by decide +kernel
theorem dX0_advance_5 : decode cX0_advance 5 = .ok (.baload, 1) := by decide +kernel
theorem dX0_advance_6 : decode cX0_advance 6 = .ok (.iconst 2, 1) := by decide +kernel
theorem dX0_advance_7 : decode cX0_advance 7 = .ok (.if_icmp .ne 4, 3) := by decide +kernel
theorem dX0_advance_10 : decode cX0_advance 10 = .ok (.return_, 1) := by decide +kernel
theorem dX0_advance_11 : decode cX0_advance 11 = .ok (.aload_n 0, 1) := by decide +kernel
theorem dX0_advance_12 : decode cX0_advance 12 = .ok (.getfield 41, 3) := by decide +kernel
theorem dX0_advance_15 : decode cX0_advance 15 = .ok (.iload_n 1, 1) := by decide +kernel
theorem dX0_advance_16 : decode cX0_advance 16 = .ok (.baload, 1) := by decide +kernel
theorem dX0_advance_17 : decode cX0_advance 17 = .ok (.ifCond .ne 60, 3) := by decide +kernel
theorem dX0_advance_20 : decode cX0_advance 20 = .ok (.aload_n 0, 1) := by decide +kernel
theorem dX0_advance_21 : decode cX0_advance 21 = .ok (.iconst 3, 1) := by decide +kernel
theorem dX0_advance_22 : decode cX0_advance 22 = .ok (.invokevirtual 93, 3) := by decide +kernel
theorem dX0_advance_25 : decode cX0_advance 25 = .ok (.istore_n 2, 1) := by decide +kernel
theorem dX0_advance_26 : decode cX0_advance 26 = .ok (.iload_n 2, 1) := by decide +kernel
theorem dX0_advance_27 : decode cX0_advance 27 = .ok (.ifCond .eq 11, 3) := by decide +kernel
theorem dX0_advance_30 : decode cX0_advance 30 = .ok (.iload_n 1, 1) := by decide +kernel
theorem dX0_advance_31 : decode cX0_advance 31 = .ok (.aload_n 0, 1) := by decide +kernel
theorem dX0_advance_32 : decode cX0_advance 32 = .ok (.getfield 80, 3) := by decide +kernel
theorem dX0_advance_35 : decode cX0_advance 35 = .ok (.if_icmp .ne 7, 3) := by decide +kernel
theorem dX0_advance_38 : decode cX0_advance 38 = .ok (.iconst 1, 1) := by decide +kernel
theorem dX0_advance_39 : decode cX0_advance 39 = .ok (.goto 4, 3) := by decide +kernel
theorem dX0_advance_42 : decode cX0_advance 42 = .ok (.iconst 0, 1) := by decide +kernel
theorem dX0_advance_43 : decode cX0_advance 43 = .ok (.istore_n 3, 1) := by decide +kernel
theorem dX0_advance_44 : decode cX0_advance 44 = .ok (.iload_n 3, 1) := by decide +kernel
theorem dX0_advance_45 : decode cX0_advance 45 = .ok (.ifCond .eq 11, 3) := by decide +kernel
theorem dX0_advance_48 : decode cX0_advance 48 = .ok (.aload_n 0, 1) := by decide +kernel
theorem dX0_advance_49 : decode cX0_advance 49 = .ok (.iload_n 1, 1) := by decide +kernel
theorem dX0_advance_50 : decode cX0_advance 50 = .ok (.invokevirtual 97, 3) := by decide +kernel
theorem dX0_advance_53 : decode cX0_advance 53 = .ok (.ifCond .ne 4, 3) := by decide +kernel
theorem dX0_advance_56 : decode cX0_advance 56 = .ok (.return_, 1) := by decide +kernel
theorem dX0_advance_57 : decode cX0_advance 57 = .ok (.aload_n 0, 1) := by decide +kernel
theorem dX0_advance_58 : decode cX0_advance 58 = .ok (.getfield 41, 3) := by decide +kernel
theorem dX0_advance_61 : decode cX0_advance 61 = .ok (.iload_n 1, 1) := by decide +kernel
theorem dX0_advance_62 : decode cX0_advance 62 = .ok (.iconst 1, 1) := by decide +kernel
theorem dX0_advance_63 : decode cX0_advance 63 = .ok (.bastore, 1) := by decide +kernel
theorem dX0_advance_64 : decode cX0_advance 64 = .ok (.aload_n 0, 1) := by decide +kernel
theorem dX0_advance_65 : decode cX0_advance 65 = .ok (.getfield 44, 3) := by decide +kernel
theorem dX0_advance_68 : decode cX0_advance 68 = .ok (.iload_n 1, 1) := by decide +kernel
theorem dX0_advance_69 : decode cX0_advance 69 = .ok (.aload_n 0, 1) := by decide +kernel
theorem dX0_advance_70 : decode cX0_advance 70 = .ok (.iconst 4, 1) := by decide +kernel
theorem dX0_advance_71 : decode cX0_advance 71 = .ok (.invokevirtual 93, 3) := by decide +kernel
theorem dX0_advance_74 : decode cX0_advance 74 = .ok (.i2b, 1) := by decide +kernel
theorem dX0_advance_75 : decode cX0_advance 75 = .ok (.bastore, 1) := by decide +kernel
theorem dX0_advance_76 : decode cX0_advance 76 = .ok (.return_, 1) := by decide +kernel
theorem dX0_advance_77 : decode cX0_advance 77 = .ok (.aload_n 0, 1) := by decide +kernel
theorem dX0_advance_78 : decode cX0_advance 78 = .ok (.getfield 44, 3) := by decide +kernel
theorem dX0_advance_81 : decode cX0_advance 81 = .ok (.iload_n 1, 1) := by decide +kernel
theorem dX0_advance_82 : decode cX0_advance 82 = .ok (.baload, 1) := by decide +kernel
theorem dX0_advance_83 : decode cX0_advance 83 = .ok (.ifCond .le 15, 3) := by decide +kernel
theorem dX0_advance_86 : decode cX0_advance 86 = .ok (.aload_n 0, 1) := by decide +kernel
theorem dX0_advance_87 : decode cX0_advance 87 = .ok (.getfield 44, 3) := by decide +kernel
theorem dX0_advance_90 : decode cX0_advance 90 = .ok (.iload_n 1, 1) := by decide +kernel
theorem dX0_advance_91 : decode cX0_advance 91 = .ok (.dup2, 1) := by decide +kernel
theorem dX0_advance_92 : decode cX0_advance 92 = .ok (.baload, 1) := by decide +kernel
theorem dX0_advance_93 : decode cX0_advance 93 = .ok (.iconst 1, 1) := by decide +kernel
theorem dX0_advance_94 : decode cX0_advance 94 = .ok (.isub, 1) := by decide +kernel
theorem dX0_advance_95 : decode cX0_advance 95 = .ok (.i2b, 1) := by decide +kernel
theorem dX0_advance_96 : decode cX0_advance 96 = .ok (.bastore, 1) := by decide +kernel
theorem dX0_advance_97 : decode cX0_advance 97 = .ok (.return_, 1) := by decide +kernel
theorem dX0_advance_98 : decode cX0_advance 98 = .ok (.aload_n 0, 1) := by decide +kernel
theorem dX0_advance_99 : decode cX0_advance 99 = .ok (.getfield 7, 3) := by decide +kernel
theorem dX0_advance_102 : decode cX0_advance 102 = .ok (.iload_n 1, 1) := by decide +kernel
theorem dX0_advance_103 : decode cX0_advance 103 = .ok (.baload, 1) := by decide +kernel
theorem dX0_advance_104 : decode cX0_advance 104 = .ok (.iconst 4, 1) := by decide +kernel
theorem dX0_advance_105 : decode cX0_advance 105 = .ok (.if_icmp .ne 11, 3) := by decide +kernel
theorem dX0_advance_108 : decode cX0_advance 108 = .ok (.aload_n 0, 1) := by decide +kernel
theorem dX0_advance_109 : decode cX0_advance 109 = .ok (.iload_n 1, 1) := by decide +kernel
theorem dX0_advance_110 : decode cX0_advance 110 = .ok (.invokevirtual 100, 3) := by decide +kernel
theorem dX0_advance_113 : decode cX0_advance 113 = .ok (.goto 26, 3) := by decide +kernel
theorem dX0_advance_116 : decode cX0_advance 116 = .ok (.aload_n 0, 1) := by decide +kernel
theorem dX0_advance_117 : decode cX0_advance 117 = .ok (.getfield 7, 3) := by decide +kernel
theorem dX0_advance_120 : decode cX0_advance 120 = .ok (.iload_n 1, 1) := by decide +kernel
theorem dX0_advance_121 : decode cX0_advance 121 = .ok (.baload, 1) := by decide +kernel
theorem dX0_advance_122 : decode cX0_advance 122 = .ok (.iconst 5, 1) := by decide +kernel
theorem dX0_advance_123 : decode cX0_advance 123 = .ok (.if_icmp .ne 11, 3) := by decide +kernel
theorem dX0_advance_126 : decode cX0_advance 126 = .ok (.aload_n 0, 1) := by decide +kernel
theorem dX0_advance_127 : decode cX0_advance 127 = .ok (.iload_n 1, 1) := by decide +kernel
theorem dX0_advance_128 : decode cX0_advance 128 = .ok (.invokevirtual 103, 3) := by decide +kernel
theorem dX0_advance_131 : decode cX0_advance 131 = .ok (.goto 8, 3) := by decide +kernel
theorem dX0_advance_134 : decode cX0_advance 134 = .ok (.aload_n 0, 1) := by decide +kernel
theorem dX0_advance_135 : decode cX0_advance 135 = .ok (.iload_n 1, 1) := by decide +kernel
theorem dX0_advance_136 : decode cX0_advance 136 = .ok (.invokevirtual 106, 3) := by decide +kernel
theorem dX0_advance_139 : decode cX0_advance 139 = .ok (.return_, 1) := by decide +kernel
theorem dX0_roll_0 : decode cX0_roll 0 = .ok (.aload_n 0, 1) := by decide +kernel
theorem dX0_roll_1 : decode cX0_roll 1 = .ok (.aload_n 0, 1) := by decide +kernel
theorem dX0_roll_2 : decode cX0_roll 2 = .ok (.getfield 64, 3) := by decide +kernel
theorem dX0_roll_5 : decode cX0_roll 5 = .ok (.ldc 92, 2) := by decide +kernel
theorem dX0_roll_7 : decode cX0_roll 7 = .ok (.imul, 1) := by decide +kernel
theorem dX0_roll_8 : decode cX0_roll 8 = .ok (.sipush 12345, 3) := by decide +kernel
theorem dX0_roll_11 : decode cX0_roll 11 = .ok (.iadd, 1) := by decide +kernel
theorem dX0_roll_12 : decode cX0_roll 12 = .ok (.putfield 64, 3) := by decide +kernel
theorem dX0_roll_15 : decode cX0_roll 15 = .ok (.aload_n 0, 1) := by decide +kernel
theorem dX0_roll_16 : decode cX0_roll 16 = .ok (.getfield 64, 3) := by decide +kernel
theorem dX0_roll_19 : decode cX0_roll 19 = .ok (.bipush 16, 2) := by decide +kernel
theorem dX0_roll_21 : decode cX0_roll 21 = .ok (.iushr, 1) := by decide +kernel
theorem dX0_roll_22 : decode cX0_roll 22 = .ok (.sipush 1023, 3) := by decide +kernel
theorem dX0_roll_25 : decode cX0_roll 25 = .ok (.iand, 1) := by decide +kernel
theorem dX0_roll_26 : decode cX0_roll 26 = .ok (.iload_n 1, 1) := by decide +kernel
theorem dX0_roll_27 : decode cX0_roll 27 = .ok (.irem, 1) := by decide +kernel
theorem dX0_roll_28 : decode cX0_roll 28 = .ok (.ireturn, 1) := by decide +kernel
theorem dX0_canStart_0 : decode cX0_canStart 0 = .ok (.aload_n 0, 1) := by decide +kernel
theorem dX0_canStart_1 : decode cX0_canStart 1 = .ok (.aload_n 0, 1) := by decide +kernel
theorem dX0_canStart_2 : decode cX0_canStart 2 = .ok (.getfield 32, 3) := by decide +kernel
theorem dX0_canStart_5 : decode cX0_canStart 5 = .ok (.iload_n 1, 1) := by decide +kernel
theorem dX0_canStart_6 : decode cX0_canStart 6 = .ok (.baload, 1) := by decide +kernel
theorem dX0_canStart_7 : decode cX0_canStart 7 = .ok (.invokevirtual 109, 3) := by decide +kernel
theorem dX0_canStart_10 : decode cX0_canStart 10 = .ok (.ifCond .ne 5, 3) := by decide +kernel
theorem dX0_canStart_13 : decode cX0_canStart 13 = .ok (.iconst 0, 1) := by decide +kernel
theorem dX0_canStart_14 : decode cX0_canStart 14 = .ok (.ireturn, 1) := by decide +kernel
theorem dX0_canStart_15 : decode cX0_canStart 15 = .ok (.aload_n 0, 1) := by decide +kernel
theorem dX0_canStart_16 : decode cX0_canStart 16 = .ok (.getfield 7, 3) := by decide +kernel
theorem dX0_canStart_19 : decode cX0_canStart 19 = .ok (.iload_n 1, 1) := by decide +kernel
theorem dX0_canStart_20 : decode cX0_canStart 20 = .ok (.baload, 1) := by decide +kernel
theorem dX0_canStart_21 : decode cX0_canStart 21 = .ok (.bipush 6, 2) := by decide +kernel
theorem dX0_canStart_23 : decode cX0_canStart 23 = .ok (.if_icmp .ne 18, 3) := by decide +kernel
theorem dX0_canStart_26 : decode cX0_canStart 26 = .ok (.aload_n 0, 1) := by decide +kernel
theorem dX0_canStart_27 : decode cX0_canStart 27 = .ok (.aload_n 0, 1) := by decide +kernel
theorem dX0_canStart_28 : decode cX0_canStart 28 = .ok (.getfield 29, 3) := by decide +kernel
theorem dX0_canStart_31 : decode cX0_canStart 31 = .ok (.iload_n 1, 1) := by decide +kernel
theorem dX0_canStart_32 : decode cX0_canStart 32 = .ok (.baload, 1) := by decide +kernel
theorem dX0_canStart_33 : decode cX0_canStart 33 = .ok (.invokevirtual 109, 3) := by decide +kernel
theorem dX0_canStart_36 : decode cX0_canStart 36 = .ok (.ifCond .ne 5, 3) := by decide +kernel
theorem dX0_canStart_39 : decode cX0_canStart 39 = .ok (.iconst 0, 1) := by decide +kernel
theorem dX0_canStart_40 : decode cX0_canStart 40 = .ok (.ireturn, 1) := by decide +kernel
theorem dX0_canStart_41 : decode cX0_canStart 41 = .ok (.aload_n 0, 1) := by decide +kernel
theorem dX0_canStart_42 : decode cX0_canStart 42 = .ok (.iload_n 1, 1) := by decide +kernel
theorem dX0_canStart_43 : decode cX0_canStart 43 = .ok (.invokevirtual 89, 3) := by decide +kernel
theorem dX0_canStart_46 : decode cX0_canStart 46 = .ok (.ifCond .eq 16, 3) := by decide +kernel
theorem dX0_canStart_49 : decode cX0_canStart 49 = .ok (.aload_n 0, 1) := by decide +kernel
theorem dX0_canStart_50 : decode cX0_canStart 50 = .ok (.aload_n 0, 1) := by decide +kernel
theorem dX0_canStart_51 : decode cX0_canStart 51 = .ok (.getfield 35, 3) := by decide +kernel
theorem dX0_canStart_54 : decode cX0_canStart 54 = .ok (.iload_n 1, 1) := by decide +kernel
theorem dX0_canStart_55 : decode cX0_canStart 55 = .ok (.baload, 1) := by decide +kernel
theorem dX0_canStart_56 : decode cX0_canStart 56 = .ok (.invokevirtual 109, 3) := by decide +kernel
theorem dX0_canStart_59 : decode cX0_canStart 59 = .ok (.ifCond .eq 7, 3) := by decide +kernel
theorem dX0_canStart_62 : decode cX0_canStart 62 = .ok (.iconst 1, 1) := by decide +kernel
theorem dX0_canStart_63 : decode cX0_canStart 63 = .ok (.goto 4, 3) := by decide +kernel
theorem dX0_canStart_66 : decode cX0_canStart 66 = .ok (.iconst 0, 1) := by decide +kernel
theorem dX0_canStart_67 : decode cX0_canStart 67 = .ok (.ireturn, 1) := by decide +kernel
theorem dX0_isThere_0 : decode cX0_isThere 0 = .ok (.iload_n 1, 1) := by decide +kernel
theorem dX0_isThere_1 : decode cX0_isThere 1 = .ok (.ifCond .lt 13, 3) := by decide +kernel
theorem dX0_isThere_4 : decode cX0_isThere 4 = .ok (.aload_n 0, 1) := by decide +kernel
theorem dX0_isThere_5 : decode cX0_isThere 5 = .ok (.getfield 41, 3) := by decide +kernel
theorem dX0_isThere_8 : decode cX0_isThere 8 = .ok (.iload_n 1, 1) := by decide +kernel
theorem dX0_isThere_9 : decode cX0_isThere 9 = .ok (.baload, 1) := by decide +kernel
theorem dX0_isThere_10 : decode cX0_isThere 10 = .ok (.iconst 2, 1) := by decide +kernel
theorem dX0_isThere_11 : decode cX0_isThere 11 = .ok (.if_icmp .ne 7, 3) := by decide +kernel
theorem dX0_isThere_14 : decode cX0_isThere 14 = .ok (.iconst 1, 1) := by decide +kernel
theorem dX0_isThere_15 : decode cX0_isThere 15 = .ok (.goto 4, 3) := by decide +kernel
theorem dX0_isThere_18 : decode cX0_isThere 18 = .ok (.iconst 0, 1) := by decide +kernel
theorem dX0_isThere_19 : decode cX0_isThere 19 = .ok (.ireturn, 1) := by decide +kernel
theorem dX0_finishLoad_0 : decode cX0_finishLoad 0 = .ok (.aload_n 0, 1) := by decide +kernel
theorem dX0_finishLoad_1 : decode cX0_finishLoad 1 = .ok (.iload_n 1, 1) := by decide +kernel
theorem dX0_finishLoad_2 : decode cX0_finishLoad 2 = .ok (.invokevirtual 116, 3) := by decide +kernel
theorem dX0_finishLoad_5 : decode cX0_finishLoad 5 = .ok (.istore_n 2, 1) := by decide +kernel
theorem dX0_finishLoad_6 : decode cX0_finishLoad 6 = .ok (.aload_n 0, 1) := by decide +kernel
theorem dX0_finishLoad_7 : decode cX0_finishLoad 7 = .ok (.getfield 50, 3) := by decide +kernel
theorem dX0_finishLoad_10 : decode cX0_finishLoad 10 = .ok (.iload_n 1, 1) := by decide +kernel
theorem dX0_finishLoad_11 : decode cX0_finishLoad 11 = .ok (.iload_n 2, 1) := by decide +kernel
theorem dX0_finishLoad_12 : decode cX0_finishLoad 12 = .ok (.i2b, 1) := by decide +kernel
theorem dX0_finishLoad_13 : decode cX0_finishLoad 13 = .ok (.bastore, 1) := by decide +kernel
theorem dX0_finishLoad_14 : decode cX0_finishLoad 14 = .ok (.iconst (-1), 1) := by decide +kernel
theorem dX0_finishLoad_15 : decode cX0_finishLoad 15 = .ok (.istore_n 3, 1) := by decide +kernel
theorem dX0_finishLoad_16 : decode cX0_finishLoad 16 = .ok (.iload_n 1, 1) := by decide +kernel
theorem dX0_finishLoad_17 : decode cX0_finishLoad 17 = .ok (.iconst 1, 1) := by decide +kernel
theorem dX0_finishLoad_18 : decode cX0_finishLoad 18 = .ok (.isub, 1) := by decide +kernel
theorem dX0_finishLoad_19 : decode cX0_finishLoad 19 = .ok (.istore 4, 2) := by decide +kernel
theorem dX0_finishLoad_21 : decode cX0_finishLoad 21 = .ok (.iload 4, 2) := by decide +kernel
theorem dX0_finishLoad_23 : decode cX0_finishLoad 23 = .ok (.aload_n 0, 1) := by decide +kernel
theorem dX0_finishLoad_24 : decode cX0_finishLoad 24 = .ok (.getfield 80, 3) := by decide +kernel
theorem dX0_finishLoad_27 : decode cX0_finishLoad 27 = .ok (.if_icmp .lt 38, 3) := by decide +kernel
theorem dX0_finishLoad_30 : decode cX0_finishLoad 30 = .ok (.iload_n 3, 1) := by decide +kernel
theorem dX0_finishLoad_31 : decode cX0_finishLoad 31 = .ok (.ifCond .ge 34, 3) := by decide +kernel
theorem dX0_finishLoad_34 : decode cX0_finishLoad 34 = .ok (.aload_n 0, 1) := by decide +kernel
theorem dX0_finishLoad_35 : decode cX0_finishLoad 35 = .ok (.getfield 7, 3) := by decide +kernel
theorem dX0_finishLoad_38 : decode cX0_finishLoad 38 = .ok (.iload 4, 2) := by decide +kernel
theorem dX0_finishLoad_40 : decode cX0_finishLoad 40 = .ok (.baload, 1) := by decide +kernel
theorem dX0_finishLoad_41 : decode cX0_finishLoad 41 = .ok (.iconst 5, 1) := by decide +kernel
theorem dX0_finishLoad_42 : decode cX0_finishLoad 42 = .ok (.if_icmp .ne 17, 3) := by decide +kernel
theorem dX0_finishLoad_45 : decode cX0_finishLoad 45 = .ok (.aload_n 0, 1) := by decide +kernel
theorem dX0_finishLoad_46 : decode cX0_finishLoad 46 = .ok (.getfield 50, 3) := by decide +kernel
theorem dX0_finishLoad_49 : decode cX0_finishLoad 49 = .ok (.iload 4, 2) := by decide +kernel
theorem dX0_finishLoad_51 : decode cX0_finishLoad 51 = .ok (.baload, 1) := by decide +kernel
theorem dX0_finishLoad_52 : decode cX0_finishLoad 52 = .ok (.iload_n 2, 1) := by decide +kernel
theorem dX0_finishLoad_53 : decode cX0_finishLoad 53 = .ok (.if_icmp .ne 6, 3) := by decide +kernel
theorem dX0_finishLoad_56 : decode cX0_finishLoad 56 = .ok (.iload 4, 2) := by decide +kernel
theorem dX0_finishLoad_58 : decode cX0_finishLoad 58 = .ok (.istore_n 3, 1) := by decide +kernel
theorem dX0_finishLoad_59 : decode cX0_finishLoad 59 = .ok (.iinc 4 (-1), 3) := by decide +kernel
theorem dX0_finishLoad_62 : decode cX0_finishLoad 62 = .ok (.goto (-41), 3) := by decide +kernel
theorem dX0_finishLoad_65 : decode cX0_finishLoad 65 = .ok (.iload_n 3, 1) := by decide +kernel
theorem dX0_finishLoad_66 : decode cX0_finishLoad 66 = .ok (.ifCond .lt 14, 3) := by decide +kernel
theorem dX0_finishLoad_69 : decode cX0_finishLoad 69 = .ok (.aload_n 0, 1) := by decide +kernel
theorem dX0_finishLoad_70 : decode cX0_finishLoad 70 = .ok (.getfield 41, 3) := by decide +kernel
theorem dX0_finishLoad_73 : decode cX0_finishLoad 73 = .ok (.iload_n 3, 1) := by decide +kernel
theorem dX0_finishLoad_74 : decode cX0_finishLoad 74 = .ok (.baload, 1) := by decide +kernel
theorem dX0_finishLoad_75 : decode cX0_finishLoad 75 = .ok (.iconst 2, 1) := by decide +kernel
theorem dX0_finishLoad_76 : decode cX0_finishLoad 76 = .ok (.if_icmp .eq 4, 3) := by decide +kernel
theorem dX0_finishLoad_79 : decode cX0_finishLoad 79 = .ok (.return_, 1) := by decide +kernel
theorem dX0_finishLoad_80 : decode cX0_finishLoad 80 = .ok (.aload_n 0, 1) := by decide +kernel
theorem dX0_finishLoad_81 : decode cX0_finishLoad 81 = .ok (.getfield 53, 3) := by decide +kernel
theorem dX0_finishLoad_84 : decode cX0_finishLoad 84 = .ok (.iload_n 1, 1) := by decide +kernel
theorem dX0_finishLoad_85 : decode cX0_finishLoad 85 = .ok (.iload_n 3, 1) := by decide +kernel
theorem dX0_finishLoad_86 : decode cX0_finishLoad 86 = .ok (.i2b, 1) := by decide +kernel
theorem dX0_finishLoad_87 : decode cX0_finishLoad 87 = .ok (.bastore, 1) := by decide +kernel
theorem dX0_finishLoad_88 : decode cX0_finishLoad 88 = .ok (.aload_n 0, 1) := by decide +kernel
theorem dX0_finishLoad_89 : decode cX0_finishLoad 89 = .ok (.getfield 47, 3) := by decide +kernel
theorem dX0_finishLoad_92 : decode cX0_finishLoad 92 = .ok (.iload_n 1, 1) := by decide +kernel
theorem dX0_finishLoad_93 : decode cX0_finishLoad 93 = .ok (.iload_n 3, 1) := by decide +kernel
theorem dX0_finishLoad_94 : decode cX0_finishLoad 94 = .ok (.ifCond .lt 12, 3) := by decide +kernel
theorem dX0_finishLoad_97 : decode cX0_finishLoad 97 = .ok (.aload_n 0, 1) := by decide +kernel
theorem dX0_finishLoad_98 : decode cX0_finishLoad 98 = .ok (.getfield 47, 3) := by decide +kernel
theorem dX0_finishLoad_101 : decode cX0_finishLoad 101 = .ok (.iload_n 3, 1) := by decide +kernel
theorem dX0_finishLoad_102 : decode cX0_finishLoad 102 = .ok (.iaload, 1) := by decide +kernel
theorem dX0_finishLoad_103 : decode cX0_finishLoad 103 = .ok (.goto 9, 3) := by decide +kernel
theorem dX0_finishLoad_106 : decode cX0_finishLoad 106 = .ok (.aload_n 0, 1) := by decide +kernel
theorem dX0_finishLoad_107 : decode cX0_finishLoad 107 = .ok (.getfield 26, 3) := by decide +kernel
theorem dX0_finishLoad_110 : decode cX0_finishLoad 110 = .ok (.iload_n 2, 1) := by decide +kernel
theorem dX0_finishLoad_111 : decode cX0_finishLoad 111 = .ok (.iaload, 1) := by decide +kernel
theorem dX0_finishLoad_112 : decode cX0_finishLoad 112 = .ok (.iastore, 1) := by decide +kernel
theorem dX0_finishLoad_113 : decode cX0_finishLoad 113 = .ok (.aload_n 0, 1) := by decide +kernel
theorem dX0_finishLoad_114 : decode cX0_finishLoad 114 = .ok (.getfield 41, 3) := by decide +kernel
theorem dX0_finishLoad_117 : decode cX0_finishLoad 117 = .ok (.iload_n 1, 1) := by decide +kernel
theorem dX0_finishLoad_118 : decode cX0_finishLoad 118 = .ok (.iconst 2, 1) := by decide +kernel
theorem dX0_finishLoad_119 : decode cX0_finishLoad 119 = .ok (.bastore, 1) := by decide +kernel
theorem dX0_finishLoad_120 : decode cX0_finishLoad 120 = .ok (.return_, 1) := by decide +kernel
theorem dX0_addressOf_0 : decode cX0_addressOf 0 = .ok (.aload_n 0, 1) := by decide +kernel
theorem dX0_addressOf_1 : decode cX0_addressOf 1 = .ok (.aload_n 0, 1) := by decide +kernel
theorem dX0_addressOf_2 : decode cX0_addressOf 2 = .ok (.getfield 32, 3) := by decide +kernel
theorem dX0_addressOf_5 : decode cX0_addressOf 5 = .ok (.iload_n 1, 1) := by decide +kernel
theorem dX0_addressOf_6 : decode cX0_addressOf 6 = .ok (.baload, 1) := by decide +kernel
theorem dX0_addressOf_7 : decode cX0_addressOf 7 = .ok (.aload_n 0, 1) := by decide +kernel
theorem dX0_addressOf_8 : decode cX0_addressOf 8 = .ok (.getfield 16, 3) := by decide +kernel
theorem dX0_addressOf_11 : decode cX0_addressOf 11 = .ok (.iload_n 1, 1) := by decide +kernel
theorem dX0_addressOf_12 : decode cX0_addressOf 12 = .ok (.iaload, 1) := by decide +kernel
theorem dX0_addressOf_13 : decode cX0_addressOf 13 = .ok (.invokevirtual 112, 3) := by decide +kernel
theorem dX0_addressOf_16 : decode cX0_addressOf 16 = .ok (.istore_n 2, 1) := by decide +kernel
theorem dX0_addressOf_17 : decode cX0_addressOf 17 = .ok (.iload_n 2, 1) := by decide +kernel
theorem dX0_addressOf_18 : decode cX0_addressOf 18 = .ok (.aload_n 0, 1) := by decide +kernel
theorem dX0_addressOf_19 : decode cX0_addressOf 19 = .ok (.getfield 20, 3) := by decide +kernel
theorem dX0_addressOf_22 : decode cX0_addressOf 22 = .ok (.iload_n 1, 1) := by decide +kernel
theorem dX0_addressOf_23 : decode cX0_addressOf 23 = .ok (.iaload, 1) := by decide +kernel
theorem dX0_addressOf_24 : decode cX0_addressOf 24 = .ok (.iadd, 1) := by decide +kernel
theorem dX0_addressOf_25 : decode cX0_addressOf 25 = .ok (.bipush 15, 2) := by decide +kernel
theorem dX0_addressOf_27 : decode cX0_addressOf 27 = .ok (.iand, 1) := by decide +kernel
theorem dX0_addressOf_28 : decode cX0_addressOf 28 = .ok (.ireturn, 1) := by decide +kernel
theorem dX0_valueFrom_0 : decode cX0_valueFrom 0 = .ok (.iload_n 1, 1) := by decide +kernel
theorem dX0_valueFrom_1 : decode cX0_valueFrom 1 = .ok (.ifCond .ge 12, 3) := by decide +kernel
theorem dX0_valueFrom_4 : decode cX0_valueFrom 4 = .ok (.aload_n 0, 1) := by decide +kernel
theorem dX0_valueFrom_5 : decode cX0_valueFrom 5 = .ok (.getfield 23, 3) := by decide +kernel
theorem dX0_valueFrom_8 : decode cX0_valueFrom 8 = .ok (.iload_n 2, 1) := by decide +kernel
theorem dX0_valueFrom_9 : decode cX0_valueFrom 9 = .ok (.iaload, 1) := by decide +kernel
theorem dX0_valueFrom_10 : decode cX0_valueFrom 10 = .ok (.goto 9, 3) := by decide +kernel
theorem dX0_valueFrom_13 : decode cX0_valueFrom 13 = .ok (.aload_n 0, 1) := by decide +kernel
theorem dX0_valueFrom_14 : decode cX0_valueFrom 14 = .ok (.getfield 47, 3) := by decide +kernel
theorem dX0_valueFrom_17 : decode cX0_valueFrom 17 = .ok (.iload_n 1, 1) := by decide +kernel
theorem dX0_valueFrom_18 : decode cX0_valueFrom 18 = .ok (.iaload, 1) := by decide +kernel
theorem dX0_valueFrom_19 : decode cX0_valueFrom 19 = .ok (.ireturn, 1) := by decide +kernel
theorem dX0_finishStore_0 : decode cX0_finishStore 0 = .ok (.aload_n 0, 1) := by decide +kernel
theorem dX0_finishStore_1 : decode cX0_finishStore 1 = .ok (.getfield 50, 3) := by decide +kernel
theorem dX0_finishStore_4 : decode cX0_finishStore 4 = .ok (.iload_n 1, 1) := by decide +kernel
theorem dX0_finishStore_5 : decode cX0_finishStore 5 = .ok (.baload, 1) := by decide +kernel
theorem dX0_finishStore_6 : decode cX0_finishStore 6 = .ok (.ifCond .ge 24, 3) := by decide +kernel
theorem dX0_finishStore_9 : decode cX0_finishStore 9 = .ok (.aload_n 0, 1) := by decide +kernel
theorem dX0_finishStore_10 : decode cX0_finishStore 10 = .ok (.iload_n 1, 1) := by decide +kernel
theorem dX0_finishStore_11 : decode cX0_finishStore 11 = .ok (.invokevirtual 116, 3) := by decide +kernel
theorem dX0_finishStore_14 : decode cX0_finishStore 14 = .ok (.istore_n 2, 1) := by decide +kernel
theorem dX0_finishStore_15 : decode cX0_finishStore 15 = .ok (.aload_n 0, 1) := by decide +kernel
theorem dX0_finishStore_16 : decode cX0_finishStore 16 = .ok (.getfield 50, 3) := by decide +kernel
end
section
set_option maxRecDepth 100000
theorem dX0_finishStore_19 : decode cX0_finishStore 19 = .ok (.iload_n 1, 1) := by decide +kernel
theorem dX0_finishStore_20 : decode cX0_finishStore 20 = .ok (.iload_n 2, 1) := by decide +kernel
theorem dX0_finishStore_21 : decode cX0_finishStore 21 = .ok (.i2b, 1) := by decide +kernel
theorem dX0_finishStore_22 : decode cX0_finishStore 22 = .ok (.bastore, 1) := by decide +kernel
theorem dX0_finishStore_23 : decode cX0_finishStore 23 = .ok (.aload_n 0, 1) := by decide +kernel
theorem dX0_finishStore_24 : decode cX0_finishStore 24 = .ok (.iload_n 1, 1) := by decide +kernel
theorem dX0_finishStore_25 : decode cX0_finishStore 25 = .ok (.iload_n 2, 1) := by decide +kernel
theorem dX0_finishStore_26 : decode cX0_finishStore 26 = .ok (.invokevirtual 119, 3) := by decide +kernel
theorem dX0_finishStore_29 : decode cX0_finishStore 29 = .ok (.return_, 1) := by decide +kernel
theorem dX0_finishStore_30 : decode cX0_finishStore 30 = .ok (.aload_n 0, 1) := by decide +kernel
theorem dX0_finishStore_31 : decode cX0_finishStore 31 = .ok (.aload_n 0, 1) := by decide +kernel
theorem dX0_finishStore_32 : decode cX0_finishStore 32 = .ok (.getfield 29, 3) := by decide +kernel
theorem dX0_finishStore_35 : decode cX0_finishStore 35 = .ok (.iload_n 1, 1) := by decide +kernel
theorem dX0_finishStore_36 : decode cX0_finishStore 36 = .ok (.baload, 1) := by decide +kernel
theorem dX0_finishStore_37 : decode cX0_finishStore 37 = .ok (.invokevirtual 109, 3) := by decide +kernel
theorem dX0_finishStore_40 : decode cX0_finishStore 40 = .ok (.ifCond .ne 4, 3) := by decide +kernel
theorem dX0_finishStore_43 : decode cX0_finishStore 43 = .ok (.return_, 1) := by decide +kernel
theorem dX0_finishStore_44 : decode cX0_finishStore 44 = .ok (.aload_n 0, 1) := by decide +kernel
theorem dX0_finishStore_45 : decode cX0_finishStore 45 = .ok (.getfield 47, 3) := by decide +kernel
theorem dX0_finishStore_48 : decode cX0_finishStore 48 = .ok (.iload_n 1, 1) := by decide +kernel
theorem dX0_finishStore_49 : decode cX0_finishStore 49 = .ok (.aload_n 0, 1) := by decide +kernel
theorem dX0_finishStore_50 : decode cX0_finishStore 50 = .ok (.aload_n 0, 1) := by decide +kernel
theorem dX0_finishStore_51 : decode cX0_finishStore 51 = .ok (.getfield 29, 3) := by decide +kernel
theorem dX0_finishStore_54 : decode cX0_finishStore 54 = .ok (.iload_n 1, 1) := by decide +kernel
theorem dX0_finishStore_55 : decode cX0_finishStore 55 = .ok (.baload, 1) := by decide +kernel
theorem dX0_finishStore_56 : decode cX0_finishStore 56 = .ok (.aload_n 0, 1) := by decide +kernel
theorem dX0_finishStore_57 : decode cX0_finishStore 57 = .ok (.getfield 13, 3) := by decide +kernel
theorem dX0_finishStore_60 : decode cX0_finishStore 60 = .ok (.iload_n 1, 1) := by decide +kernel
theorem dX0_finishStore_61 : decode cX0_finishStore 61 = .ok (.baload, 1) := by decide +kernel
theorem dX0_finishStore_62 : decode cX0_finishStore 62 = .ok (.invokevirtual 112, 3) := by decide +kernel
theorem dX0_finishStore_65 : decode cX0_finishStore 65 = .ok (.iastore, 1) := by decide +kernel
theorem dX0_finishStore_66 : decode cX0_finishStore 66 = .ok (.aload_n 0, 1) := by decide +kernel
theorem dX0_finishStore_67 : decode cX0_finishStore 67 = .ok (.getfield 41, 3) := by decide +kernel
theorem dX0_finishStore_70 : decode cX0_finishStore 70 = .ok (.iload_n 1, 1) := by decide +kernel
theorem dX0_finishStore_71 : decode cX0_finishStore 71 = .ok (.iconst 2, 1) := by decide +kernel
theorem dX0_finishStore_72 : decode cX0_finishStore 72 = .ok (.bastore, 1) := by decide +kernel
theorem dX0_finishStore_73 : decode cX0_finishStore 73 = .ok (.return_, 1) := by decide +kernel
theorem dX0_catchEarly_0 : decode cX0_catchEarly 0 = .ok (.iload_n 1, 1) := by decide +kernel
theorem dX0_catchEarly_1 : decode cX0_catchEarly 1 = .ok (.iconst 1, 1) := by decide +kernel
theorem dX0_catchEarly_2 : decode cX0_catchEarly 2 = .ok (.iadd, 1) := by decide +kernel
theorem dX0_catchEarly_3 : decode cX0_catchEarly 3 = .ok (.istore_n 3, 1) := by decide +kernel
theorem dX0_catchEarly_4 : decode cX0_catchEarly 4 = .ok (.iload_n 3, 1) := by decide +kernel
theorem dX0_catchEarly_5 : decode cX0_catchEarly 5 = .ok (.aload_n 0, 1) := by decide +kernel
theorem dX0_catchEarly_6 : decode cX0_catchEarly 6 = .ok (.getfield 56, 3) := by decide +kernel
theorem dX0_catchEarly_9 : decode cX0_catchEarly 9 = .ok (.if_icmp .ge 77, 3) := by decide +kernel
theorem dX0_catchEarly_12 : decode cX0_catchEarly 12 = .ok (.aload_n 0, 1) := by decide +kernel
theorem dX0_catchEarly_13 : decode cX0_catchEarly 13 = .ok (.getfield 7, 3) := by decide +kernel
theorem dX0_catchEarly_16 : decode cX0_catchEarly 16 = .ok (.iload_n 3, 1) := by decide +kernel
theorem dX0_catchEarly_17 : decode cX0_catchEarly 17 = .ok (.baload, 1) := by decide +kernel
theorem dX0_catchEarly_18 : decode cX0_catchEarly 18 = .ok (.iconst 4, 1) := by decide +kernel
theorem dX0_catchEarly_19 : decode cX0_catchEarly 19 = .ok (.if_icmp .ne 61, 3) := by decide +kernel
theorem dX0_catchEarly_22 : decode cX0_catchEarly 22 = .ok (.aload_n 0, 1) := by decide +kernel
theorem dX0_catchEarly_23 : decode cX0_catchEarly 23 = .ok (.getfield 41, 3) := by decide +kernel
theorem dX0_catchEarly_26 : decode cX0_catchEarly 26 = .ok (.iload_n 3, 1) := by decide +kernel
theorem dX0_catchEarly_27 : decode cX0_catchEarly 27 = .ok (.baload, 1) := by decide +kernel
theorem dX0_catchEarly_28 : decode cX0_catchEarly 28 = .ok (.iconst 2, 1) := by decide +kernel
theorem dX0_catchEarly_29 : decode cX0_catchEarly 29 = .ok (.if_icmp .ne 51, 3) := by decide +kernel
theorem dX0_catchEarly_32 : decode cX0_catchEarly 32 = .ok (.aload_n 0, 1) := by decide +kernel
theorem dX0_catchEarly_33 : decode cX0_catchEarly 33 = .ok (.getfield 50, 3) := by decide +kernel
theorem dX0_catchEarly_36 : decode cX0_catchEarly 36 = .ok (.iload_n 3, 1) := by decide +kernel
theorem dX0_catchEarly_37 : decode cX0_catchEarly 37 = .ok (.baload, 1) := by decide +kernel
theorem dX0_catchEarly_38 : decode cX0_catchEarly 38 = .ok (.iload_n 2, 1) := by decide +kernel
theorem dX0_catchEarly_39 : decode cX0_catchEarly 39 = .ok (.if_icmp .ne 41, 3) := by decide +kernel
theorem dX0_catchEarly_42 : decode cX0_catchEarly 42 = .ok (.aload_n 0, 1) := by decide +kernel
theorem dX0_catchEarly_43 : decode cX0_catchEarly 43 = .ok (.getfield 53, 3) := by decide +kernel
theorem dX0_catchEarly_46 : decode cX0_catchEarly 46 = .ok (.iload_n 3, 1) := by decide +kernel
theorem dX0_catchEarly_47 : decode cX0_catchEarly 47 = .ok (.baload, 1) := by decide +kernel
theorem dX0_catchEarly_48 : decode cX0_catchEarly 48 = .ok (.iload_n 1, 1) := by decide +kernel
theorem dX0_catchEarly_49 : decode cX0_catchEarly 49 = .ok (.if_icmp .lt 6, 3) := by decide +kernel
theorem dX0_catchEarly_52 : decode cX0_catchEarly 52 = .ok (.goto 28, 3) := by decide +kernel
theorem dX0_catchEarly_55 : decode cX0_catchEarly 55 = .ok (.iload_n 3, 1) := by decide +kernel
theorem dX0_catchEarly_56 : decode cX0_catchEarly 56 = .ok (.istore 4, 2) := by decide +kernel
theorem dX0_catchEarly_58 : decode cX0_catchEarly 58 = .ok (.iload 4, 2) := by decide +kernel
theorem dX0_catchEarly_60 : decode cX0_catchEarly 60 = .ok (.aload_n 0, 1) := by decide +kernel
theorem dX0_catchEarly_61 : decode cX0_catchEarly 61 = .ok (.getfield 56, 3) := by decide +kernel
theorem dX0_catchEarly_64 : decode cX0_catchEarly 64 = .ok (.if_icmp .ge 15, 3) := by decide +kernel
theorem dX0_catchEarly_67 : decode cX0_catchEarly 67 = .ok (.aload_n 0, 1) := by decide +kernel
theorem dX0_catchEarly_68 : decode cX0_catchEarly 68 = .ok (.iload 4, 2) := by decide +kernel
theorem dX0_catchEarly_70 : decode cX0_catchEarly 70 = .ok (.invokevirtual 76, 3) := by decide +kernel
theorem dX0_catchEarly_73 : decode cX0_catchEarly 73 = .ok (.iinc 4 1, 3) := by decide +kernel
theorem dX0_catchEarly_76 : decode cX0_catchEarly 76 = .ok (.goto (-18), 3) := by decide +kernel
theorem dX0_catchEarly_79 : decode cX0_catchEarly 79 = .ok (.return_, 1) := by decide +kernel
theorem dX0_catchEarly_80 : decode cX0_catchEarly 80 = .ok (.iinc 3 1, 3) := by decide +kernel
theorem dX0_catchEarly_83 : decode cX0_catchEarly 83 = .ok (.goto (-79), 3) := by decide +kernel
theorem dX0_catchEarly_86 : decode cX0_catchEarly 86 = .ok (.return_, 1) := by decide +kernel
theorem dX0_finishPlain_0 : decode cX0_finishPlain 0 = .ok (.aload_n 0, 1) := by decide +kernel
theorem dX0_finishPlain_1 : decode cX0_finishPlain 1 = .ok (.getfield 7, 3) := by decide +kernel
theorem dX0_finishPlain_4 : decode cX0_finishPlain 4 = .ok (.iload_n 1, 1) := by decide +kernel
theorem dX0_finishPlain_5 : decode cX0_finishPlain 5 = .ok (.baload, 1) := by decide +kernel
theorem dX0_finishPlain_6 : decode cX0_finishPlain 6 = .ok (.istore_n 2, 1) := by decide +kernel
theorem dX0_finishPlain_7 : decode cX0_finishPlain 7 = .ok (.aload_n 0, 1) := by decide +kernel
theorem dX0_finishPlain_8 : decode cX0_finishPlain 8 = .ok (.getfield 16, 3) := by decide +kernel
theorem dX0_finishPlain_11 : decode cX0_finishPlain 11 = .ok (.iload_n 1, 1) := by decide +kernel
theorem dX0_finishPlain_12 : decode cX0_finishPlain 12 = .ok (.iaload, 1) := by decide +kernel
theorem dX0_finishPlain_13 : decode cX0_finishPlain 13 = .ok (.istore_n 3, 1) := by decide +kernel
theorem dX0_finishPlain_14 : decode cX0_finishPlain 14 = .ok (.iload_n 2, 1) := by decide +kernel
theorem dX0_finishPlain_15 : decode cX0_finishPlain 15 = .ok (.ifCond .eq 108, 3) := by decide +kernel
theorem dX0_finishPlain_18 : decode cX0_finishPlain 18 = .ok (.aload_n 0, 1) := by decide +kernel
theorem dX0_finishPlain_19 : decode cX0_finishPlain 19 = .ok (.aload_n 0, 1) := by decide +kernel
theorem dX0_finishPlain_20 : decode cX0_finishPlain 20 = .ok (.getfield 32, 3) := by decide +kernel
theorem dX0_finishPlain_23 : decode cX0_finishPlain 23 = .ok (.iload_n 1, 1) := by decide +kernel
theorem dX0_finishPlain_24 : decode cX0_finishPlain 24 = .ok (.baload, 1) := by decide +kernel
theorem dX0_finishPlain_25 : decode cX0_finishPlain 25 = .ok (.aload_n 0, 1) := by decide +kernel
theorem dX0_finishPlain_26 : decode cX0_finishPlain 26 = .ok (.getfield 16, 3) := by decide +kernel
theorem dX0_finishPlain_29 : decode cX0_finishPlain 29 = .ok (.iload_n 1, 1) := by decide +kernel
theorem dX0_finishPlain_30 : decode cX0_finishPlain 30 = .ok (.iaload, 1) := by decide +kernel
theorem dX0_finishPlain_31 : decode cX0_finishPlain 31 = .ok (.invokevirtual 112, 3) := by decide +kernel
theorem dX0_finishPlain_34 : decode cX0_finishPlain 34 = .ok (.istore 4, 2) := by decide +kernel
theorem dX0_finishPlain_36 : decode cX0_finishPlain 36 = .ok (.aload_n 0, 1) := by decide +kernel
theorem dX0_finishPlain_37 : decode cX0_finishPlain 37 = .ok (.aload_n 0, 1) := by decide +kernel
theorem dX0_finishPlain_38 : decode cX0_finishPlain 38 = .ok (.getfield 35, 3) := by decide +kernel
theorem dX0_finishPlain_41 : decode cX0_finishPlain 41 = .ok (.iload_n 1, 1) := by decide +kernel
theorem dX0_finishPlain_42 : decode cX0_finishPlain 42 = .ok (.baload, 1) := by decide +kernel
theorem dX0_finishPlain_43 : decode cX0_finishPlain 43 = .ok (.aload_n 0, 1) := by decide +kernel
theorem dX0_finishPlain_44 : decode cX0_finishPlain 44 = .ok (.getfield 20, 3) := by decide +kernel
theorem dX0_finishPlain_47 : decode cX0_finishPlain 47 = .ok (.iload_n 1, 1) := by decide +kernel
theorem dX0_finishPlain_48 : decode cX0_finishPlain 48 = .ok (.iaload, 1) := by decide +kernel
theorem dX0_finishPlain_49 : decode cX0_finishPlain 49 = .ok (.invokevirtual 112, 3) := by decide +kernel
theorem dX0_finishPlain_52 : decode cX0_finishPlain 52 = .ok (.istore 5, 2) := by decide +kernel
theorem dX0_finishPlain_54 : decode cX0_finishPlain 54 = .ok (.iload_n 2, 1) := by decide +kernel
theorem dX0_finishPlain_55 : decode cX0_finishPlain 55 = .ok (.iconst 1, 1) := by decide +kernel
theorem dX0_finishPlain_56 : decode cX0_finishPlain 56 = .ok (.if_icmp .ne 12, 3) := by decide +kernel
theorem dX0_finishPlain_59 : decode cX0_finishPlain 59 = .ok (.iload 4, 2) := by decide +kernel
theorem dX0_finishPlain_61 : decode cX0_finishPlain 61 = .ok (.iload 5, 2) := by decide +kernel
theorem dX0_finishPlain_63 : decode cX0_finishPlain 63 = .ok (.iadd, 1) := by decide +kernel
theorem dX0_finishPlain_64 : decode cX0_finishPlain 64 = .ok (.istore_n 3, 1) := by decide +kernel
theorem dX0_finishPlain_65 : decode cX0_finishPlain 65 = .ok (.goto 58, 3) := by decide +kernel
theorem dX0_finishPlain_68 : decode cX0_finishPlain 68 = .ok (.iload_n 2, 1) := by decide +kernel
theorem dX0_finishPlain_69 : decode cX0_finishPlain 69 = .ok (.iconst 2, 1) := by decide +kernel
theorem dX0_finishPlain_70 : decode cX0_finishPlain 70 = .ok (.if_icmp .ne 12, 3) := by decide +kernel
theorem dX0_finishPlain_73 : decode cX0_finishPlain 73 = .ok (.iload 4, 2) := by decide +kernel
theorem dX0_finishPlain_75 : decode cX0_finishPlain 75 = .ok (.iload 5, 2) := by decide +kernel
theorem dX0_finishPlain_77 : decode cX0_finishPlain 77 = .ok (.isub, 1) := by decide +kernel
theorem dX0_finishPlain_78 : decode cX0_finishPlain 78 = .ok (.istore_n 3, 1) := by decide +kernel
theorem dX0_finishPlain_79 : decode cX0_finishPlain 79 = .ok (.goto 44, 3) := by decide +kernel
theorem dX0_finishPlain_82 : decode cX0_finishPlain 82 = .ok (.iload_n 2, 1) := by decide +kernel
theorem dX0_finishPlain_83 : decode cX0_finishPlain 83 = .ok (.iconst 3, 1) := by decide +kernel
theorem dX0_finishPlain_84 : decode cX0_finishPlain 84 = .ok (.if_icmp .ne 12, 3) := by decide +kernel
theorem dX0_finishPlain_87 : decode cX0_finishPlain 87 = .ok (.iload 4, 2) := by decide +kernel
theorem dX0_finishPlain_89 : decode cX0_finishPlain 89 = .ok (.iload 5, 2) := by decide +kernel
theorem dX0_finishPlain_91 : decode cX0_finishPlain 91 = .ok (.imul, 1) := by decide +kernel
theorem dX0_finishPlain_92 : decode cX0_finishPlain 92 = .ok (.istore_n 3, 1) := by decide +kernel
theorem dX0_finishPlain_93 : decode cX0_finishPlain 93 = .ok (.goto 30, 3) := by decide +kernel
theorem dX0_finishPlain_96 : decode cX0_finishPlain 96 = .ok (.iload 4, 2) := by decide +kernel
theorem dX0_finishPlain_98 : decode cX0_finishPlain 98 = .ok (.ifCond .le 8, 3) := by decide +kernel
theorem dX0_finishPlain_101 : decode cX0_finishPlain 101 = .ok (.iload 5, 2) := by decide +kernel
theorem dX0_finishPlain_103 : decode cX0_finishPlain 103 = .ok (.goto 19, 3) := by decide +kernel
theorem dX0_finishPlain_106 : decode cX0_finishPlain 106 = .ok (.aload_n 0, 1) := by decide +kernel
theorem dX0_finishPlain_107 : decode cX0_finishPlain 107 = .ok (.aload_n 0, 1) := by decide +kernel
theorem dX0_finishPlain_108 : decode cX0_finishPlain 108 = .ok (.getfield 29, 3) := by decide +kernel
theorem dX0_finishPlain_111 : decode cX0_finishPlain 111 = .ok (.iload_n 1, 1) := by decide +kernel
theorem dX0_finishPlain_112 : decode cX0_finishPlain 112 = .ok (.baload, 1) := by decide +kernel
theorem dX0_finishPlain_113 : decode cX0_finishPlain 113 = .ok (.aload_n 0, 1) := by decide +kernel
theorem dX0_finishPlain_114 : decode cX0_finishPlain 114 = .ok (.getfield 13, 3) := by decide +kernel
theorem dX0_finishPlain_117 : decode cX0_finishPlain 117 = .ok (.iload_n 1, 1) := by decide +kernel
theorem dX0_finishPlain_118 : decode cX0_finishPlain 118 = .ok (.baload, 1) := by decide +kernel
theorem dX0_finishPlain_119 : decode cX0_finishPlain 119 = .ok (.invokevirtual 112, 3) := by decide +kernel
theorem dX0_finishPlain_122 : decode cX0_finishPlain 122 = .ok (.istore_n 3, 1) := by decide +kernel
theorem dX0_finishPlain_123 : decode cX0_finishPlain 123 = .ok (.aload_n 0, 1) := by decide +kernel
theorem dX0_finishPlain_124 : decode cX0_finishPlain 124 = .ok (.getfield 47, 3) := by decide +kernel
theorem dX0_finishPlain_127 : decode cX0_finishPlain 127 = .ok (.iload_n 1, 1) := by decide +kernel
theorem dX0_finishPlain_128 : decode cX0_finishPlain 128 = .ok (.iload_n 3, 1) := by decide +kernel
theorem dX0_finishPlain_129 : decode cX0_finishPlain 129 = .ok (.iastore, 1) := by decide +kernel
theorem dX0_finishPlain_130 : decode cX0_finishPlain 130 = .ok (.aload_n 0, 1) := by decide +kernel
theorem dX0_finishPlain_131 : decode cX0_finishPlain 131 = .ok (.getfield 41, 3) := by decide +kernel
theorem dX0_finishPlain_134 : decode cX0_finishPlain 134 = .ok (.iload_n 1, 1) := by decide +kernel
theorem dX0_finishPlain_135 : decode cX0_finishPlain 135 = .ok (.iconst 2, 1) := by decide +kernel
theorem dX0_finishPlain_136 : decode cX0_finishPlain 136 = .ok (.bastore, 1) := by decide +kernel
theorem dX0_finishPlain_137 : decode cX0_finishPlain 137 = .ok (.return_, 1) := by decide +kernel
theorem dX0_takeEffect_0 : decode cX0_takeEffect 0 = .ok (.aload_n 0, 1) := by decide +kernel
theorem dX0_takeEffect_1 : decode cX0_takeEffect 1 = .ok (.getfield 80, 3) := by decide +kernel
theorem dX0_takeEffect_4 : decode cX0_takeEffect 4 = .ok (.istore_n 1, 1) := by decide +kernel
theorem dX0_takeEffect_5 : decode cX0_takeEffect 5 = .ok (.aload_n 0, 1) := by decide +kernel
theorem dX0_takeEffect_6 : decode cX0_takeEffect 6 = .ok (.getfield 50, 3) := by decide +kernel
theorem dX0_takeEffect_9 : decode cX0_takeEffect 9 = .ok (.iload_n 1, 1) := by decide +kernel
theorem dX0_takeEffect_10 : decode cX0_takeEffect 10 = .ok (.baload, 1) := by decide +kernel
theorem dX0_takeEffect_11 : decode cX0_takeEffect 11 = .ok (.istore_n 2, 1) := by decide +kernel
theorem dX0_takeEffect_12 : decode cX0_takeEffect 12 = .ok (.aload_n 0, 1) := by decide +kernel
theorem dX0_takeEffect_13 : decode cX0_takeEffect 13 = .ok (.getfield 7, 3) := by decide +kernel
theorem dX0_takeEffect_16 : decode cX0_takeEffect 16 = .ok (.iload_n 1, 1) := by decide +kernel
theorem dX0_takeEffect_17 : decode cX0_takeEffect 17 = .ok (.baload, 1) := by decide +kernel
theorem dX0_takeEffect_18 : decode cX0_takeEffect 18 = .ok (.iconst 5, 1) := by decide +kernel
theorem dX0_takeEffect_19 : decode cX0_takeEffect 19 = .ok (.if_icmp .ne 30, 3) := by decide +kernel
theorem dX0_takeEffect_22 : decode cX0_takeEffect 22 = .ok (.aload_n 0, 1) := by decide +kernel
theorem dX0_takeEffect_23 : decode cX0_takeEffect 23 = .ok (.getfield 26, 3) := by decide +kernel
theorem dX0_takeEffect_26 : decode cX0_takeEffect 26 = .ok (.iload_n 2, 1) := by decide +kernel
theorem dX0_takeEffect_27 : decode cX0_takeEffect 27 = .ok (.aload_n 0, 1) := by decide +kernel
theorem dX0_takeEffect_28 : decode cX0_takeEffect 28 = .ok (.getfield 47, 3) := by decide +kernel
theorem dX0_takeEffect_31 : decode cX0_takeEffect 31 = .ok (.iload_n 1, 1) := by decide +kernel
theorem dX0_takeEffect_32 : decode cX0_takeEffect 32 = .ok (.iaload, 1) := by decide +kernel
theorem dX0_takeEffect_33 : decode cX0_takeEffect 33 = .ok (.iastore, 1) := by decide +kernel
theorem dX0_takeEffect_34 : decode cX0_takeEffect 34 = .ok (.aload_n 0, 1) := by decide +kernel
theorem dX0_takeEffect_35 : decode cX0_takeEffect 35 = .ok (.dup, 1) := by decide +kernel
theorem dX0_takeEffect_36 : decode cX0_takeEffect 36 = .ok (.getfield 70, 3) := by decide +kernel
theorem dX0_takeEffect_39 : decode cX0_takeEffect 39 = .ok (.iconst 1, 1) := by decide +kernel
theorem dX0_takeEffect_40 : decode cX0_takeEffect 40 = .ok (.iload_n 2, 1) := by decide +kernel
theorem dX0_takeEffect_41 : decode cX0_takeEffect 41 = .ok (.ishl, 1) := by decide +kernel
theorem dX0_takeEffect_42 : decode cX0_takeEffect 42 = .ok (.ior, 1) := by decide +kernel
theorem dX0_takeEffect_43 : decode cX0_takeEffect 43 = .ok (.putfield 70, 3) := by decide +kernel
theorem dX0_takeEffect_46 : decode cX0_takeEffect 46 = .ok (.goto 20, 3) := by decide +kernel
theorem dX0_takeEffect_49 : decode cX0_takeEffect 49 = .ok (.aload_n 0, 1) := by decide +kernel
theorem dX0_takeEffect_50 : decode cX0_takeEffect 50 = .ok (.getfield 23, 3) := by decide +kernel
theorem dX0_takeEffect_53 : decode cX0_takeEffect 53 = .ok (.aload_n 0, 1) := by decide +kernel
theorem dX0_takeEffect_54 : decode cX0_takeEffect 54 = .ok (.getfield 13, 3) := by decide +kernel
theorem dX0_takeEffect_57 : decode cX0_takeEffect 57 = .ok (.iload_n 1, 1) := by decide +kernel
theorem dX0_takeEffect_58 : decode cX0_takeEffect 58 = .ok (.baload, 1) := by decide +kernel
theorem dX0_takeEffect_59 : decode cX0_takeEffect 59 = .ok (.aload_n 0, 1) := by decide +kernel
theorem dX0_takeEffect_60 : decode cX0_takeEffect 60 = .ok (.getfield 47, 3) := by decide +kernel
theorem dX0_takeEffect_63 : decode cX0_takeEffect 63 = .ok (.iload_n 1, 1) := by decide +kernel
theorem dX0_takeEffect_64 : decode cX0_takeEffect 64 = .ok (.iaload, 1) := by decide +kernel
theorem dX0_takeEffect_65 : decode cX0_takeEffect 65 = .ok (.iastore, 1) := by decide +kernel
theorem dX0_takeEffect_66 : decode cX0_takeEffect 66 = .ok (.aload_n 0, 1) := by decide +kernel
theorem dX0_takeEffect_67 : decode cX0_takeEffect 67 = .ok (.getfield 7, 3) := by decide +kernel
theorem dX0_takeEffect_70 : decode cX0_takeEffect 70 = .ok (.iload_n 1, 1) := by decide +kernel
theorem dX0_takeEffect_71 : decode cX0_takeEffect 71 = .ok (.baload, 1) := by decide +kernel
theorem dX0_takeEffect_72 : decode cX0_takeEffect 72 = .ok (.iconst 4, 1) := by decide +kernel
theorem dX0_takeEffect_73 : decode cX0_takeEffect 73 = .ok (.if_icmp .ne 24, 3) := by decide +kernel
theorem dX0_takeEffect_76 : decode cX0_takeEffect 76 = .ok (.aload_n 0, 1) := by decide +kernel
theorem dX0_takeEffect_77 : decode cX0_takeEffect 77 = .ok (.getfield 70, 3) := by decide +kernel
theorem dX0_takeEffect_80 : decode cX0_takeEffect 80 = .ok (.iload_n 2, 1) := by decide +kernel
theorem dX0_takeEffect_81 : decode cX0_takeEffect 81 = .ok (.ishr, 1) := by decide +kernel
theorem dX0_takeEffect_82 : decode cX0_takeEffect 82 = .ok (.iconst 1, 1) := by decide +kernel
theorem dX0_takeEffect_83 : decode cX0_takeEffect 83 = .ok (.iand, 1) := by decide +kernel
theorem dX0_takeEffect_84 : decode cX0_takeEffect 84 = .ok (.ifCond .eq 13, 3) := by decide +kernel
theorem dX0_takeEffect_87 : decode cX0_takeEffect 87 = .ok (.aload_n 0, 1) := by decide +kernel
theorem dX0_takeEffect_88 : decode cX0_takeEffect 88 = .ok (.dup, 1) := by decide +kernel
theorem dX0_takeEffect_89 : decode cX0_takeEffect 89 = .ok (.getfield 67, 3) := by decide +kernel
theorem dX0_takeEffect_92 : decode cX0_takeEffect 92 = .ok (.iconst 1, 1) := by decide +kernel
theorem dX0_takeEffect_93 : decode cX0_takeEffect 93 = .ok (.iadd, 1) := by decide +kernel
theorem dX0_takeEffect_94 : decode cX0_takeEffect 94 = .ok (.putfield 67, 3) := by decide +kernel
theorem dX0_takeEffect_97 : decode cX0_takeEffect 97 = .ok (.aload_n 0, 1) := by decide +kernel
theorem dX0_takeEffect_98 : decode cX0_takeEffect 98 = .ok (.dup, 1) := by decide +kernel
theorem dX0_takeEffect_99 : decode cX0_takeEffect 99 = .ok (.getfield 80, 3) := by decide +kernel
theorem dX0_takeEffect_102 : decode cX0_takeEffect 102 = .ok (.iconst 1, 1) := by decide +kernel
theorem dX0_takeEffect_103 : decode cX0_takeEffect 103 = .ok (.iadd, 1) := by decide +kernel
theorem dX0_takeEffect_104 : decode cX0_takeEffect 104 = .ok (.putfield 80, 3) := by decide +kernel
theorem dX0_takeEffect_107 : decode cX0_takeEffect 107 = .ok (.return_, 1) := by decide +kernel
theorem dX0_fed_0 : decode cX0_fed 0 = .ok (.aload_n 0, 1) := by decide +kernel
theorem dX0_fed_1 : decode cX0_fed 1 = .ok (.getfield 67, 3) := by decide +kernel
theorem dX0_fed_4 : decode cX0_fed 4 = .ok (.ireturn, 1) := by decide +kernel
theorem dX0_written_0 : decode cX0_written 0 = .ok (.iconst 0, 1) := by decide +kernel
theorem dX0_written_1 : decode cX0_written 1 = .ok (.istore_n 1, 1) := by decide +kernel
theorem dX0_written_2 : decode cX0_written 2 = .ok (.iconst 0, 1) := by decide +kernel
theorem dX0_written_3 : decode cX0_written 3 = .ok (.istore_n 2, 1) := by decide +kernel
theorem dX0_written_4 : decode cX0_written 4 = .ok (.iload_n 2, 1) := by decide +kernel
theorem dX0_written_5 : decode cX0_written 5 = .ok (.bipush 16, 2) := by decide +kernel
theorem dX0_written_7 : decode cX0_written 7 = .ok (.if_icmp .ge 20, 3) := by decide +kernel
theorem dX0_written_10 : decode cX0_written 10 = .ok (.iload_n 1, 1) := by decide +kernel
theorem dX0_written_11 : decode cX0_written 11 = .ok (.aload_n 0, 1) := by decide +kernel
theorem dX0_written_12 : decode cX0_written 12 = .ok (.getfield 70, 3) := by decide +kernel
theorem dX0_written_15 : decode cX0_written 15 = .ok (.iload_n 2, 1) := by decide +kernel
theorem dX0_written_16 : decode cX0_written 16 = .ok (.ishr, 1) := by decide +kernel
theorem dX0_written_17 : decode cX0_written 17 = .ok (.iconst 1, 1) := by decide +kernel
theorem dX0_written_18 : decode cX0_written 18 = .ok (.iand, 1) := by decide +kernel
theorem dX0_written_19 : decode cX0_written 19 = .ok (.iadd, 1) := by decide +kernel
theorem dX0_written_20 : decode cX0_written 20 = .ok (.istore_n 1, 1) := by decide +kernel
theorem dX0_written_21 : decode cX0_written 21 = .ok (.iinc 2 1, 3) := by decide +kernel
theorem dX0_written_24 : decode cX0_written 24 = .ok (.goto (-20), 3) := by decide +kernel
theorem dX0_written_27 : decode cX0_written 27 = .ok (.iload_n 1, 1) := by decide +kernel
theorem dX0_written_28 : decode cX0_written 28 = .ok (.ireturn, 1) := by decide +kernel
theorem dX0_register_0 : decode cX0_register 0 = .ok (.aload_n 0, 1) := by decide +kernel
theorem dX0_register_1 : decode cX0_register 1 = .ok (.iload_n 1, 1) := by decide +kernel
theorem dX0_register_2 : decode cX0_register 2 = .ok (.invokevirtual 60, 3) := by decide +kernel
theorem dX0_register_5 : decode cX0_register 5 = .ok (.ifCond .eq 12, 3) := by decide +kernel
theorem dX0_register_8 : decode cX0_register 8 = .ok (.aload_n 0, 1) := by decide +kernel
theorem dX0_register_9 : decode cX0_register 9 = .ok (.getfield 23, 3) := by decide +kernel
theorem dX0_register_12 : decode cX0_register 12 = .ok (.iload_n 1, 1) := by decide +kernel
theorem dX0_register_13 : decode cX0_register 13 = .ok (.iaload, 1) := by decide +kernel
theorem dX0_register_14 : decode cX0_register 14 = .ok (.goto 4, 3) := by decide +kernel
theorem dX0_register_17 : decode cX0_register 17 = .ok (.iconst 0, 1) := by decide +kernel
theorem dX0_register_18 : decode cX0_register 18 = .ok (.ireturn, 1) := by decide +kernel
theorem dX0_setRegister_0 : decode cX0_setRegister 0 = .ok (.aload_n 0, 1) := by decide +kernel
theorem dX0_setRegister_1 : decode cX0_setRegister 1 = .ok (.iload_n 1, 1) := by decide +kernel
theorem dX0_setRegister_2 : decode cX0_setRegister 2 = .ok (.invokevirtual 60, 3) := by decide +kernel
theorem dX0_setRegister_5 : decode cX0_setRegister 5 = .ok (.ifCond .ne 5, 3) := by decide +kernel
theorem dX0_setRegister_8 : decode cX0_setRegister 8 = .ok (.iconst 0, 1) := by decide +kernel
theorem dX0_setRegister_9 : decode cX0_setRegister 9 = .ok (.ireturn, 1) := by decide +kernel
theorem dX0_setRegister_10 : decode cX0_setRegister 10 = .ok (.aload_n 0, 1) := by decide +kernel
theorem dX0_setRegister_11 : decode cX0_setRegister 11 = .ok (.getfield 23, 3) := by decide +kernel
theorem dX0_setRegister_14 : decode cX0_setRegister 14 = .ok (.iload_n 1, 1) := by decide +kernel
theorem dX0_setRegister_15 : decode cX0_setRegister 15 = .ok (.iload_n 2, 1) := by decide +kernel
theorem dX0_setRegister_16 : decode cX0_setRegister 16 = .ok (.iastore, 1) := by decide +kernel
theorem dX0_setRegister_17 : decode cX0_setRegister 17 = .ok (.iconst 1, 1) := by decide +kernel
theorem dX0_setRegister_18 : decode cX0_setRegister 18 = .ok (.ireturn, 1) := by decide +kernel
theorem dX0_memory_0 : decode cX0_memory 0 = .ok (.iload_n 1, 1) := by decide +kernel
theorem dX0_memory_1 : decode cX0_memory 1 = .ok (.ifCond .lt 9, 3) := by decide +kernel
theorem dX0_memory_4 : decode cX0_memory 4 = .ok (.iload_n 1, 1) := by decide +kernel
theorem dX0_memory_5 : decode cX0_memory 5 = .ok (.bipush 15, 2) := by decide +kernel
theorem dX0_memory_7 : decode cX0_memory 7 = .ok (.if_icmp .le 7, 3) := by decide +kernel
theorem dX0_memory_10 : decode cX0_memory 10 = .ok (.iconst 0, 1) := by decide +kernel
theorem dX0_memory_11 : decode cX0_memory 11 = .ok (.goto 9, 3) := by decide +kernel
theorem dX0_memory_14 : decode cX0_memory 14 = .ok (.aload_n 0, 1) := by decide +kernel
theorem dX0_memory_15 : decode cX0_memory 15 = .ok (.getfield 26, 3) := by decide +kernel
theorem dX0_memory_18 : decode cX0_memory 18 = .ok (.iload_n 1, 1) := by decide +kernel
theorem dX0_memory_19 : decode cX0_memory 19 = .ok (.iaload, 1) := by decide +kernel
theorem dX0_memory_20 : decode cX0_memory 20 = .ok (.ireturn, 1) := by decide +kernel
theorem dX0_setMemory_0 : decode cX0_setMemory 0 = .ok (.iload_n 1, 1) := by decide +kernel
theorem dX0_setMemory_1 : decode cX0_setMemory 1 = .ok (.ifCond .lt 9, 3) := by decide +kernel
theorem dX0_setMemory_4 : decode cX0_setMemory 4 = .ok (.iload_n 1, 1) := by decide +kernel
theorem dX0_setMemory_5 : decode cX0_setMemory 5 = .ok (.bipush 15, 2) := by decide +kernel
theorem dX0_setMemory_7 : decode cX0_setMemory 7 = .ok (.if_icmp .le 5, 3) := by decide +kernel
theorem dX0_setMemory_10 : decode cX0_setMemory 10 = .ok (.iconst 0, 1) := by decide +kernel
theorem dX0_setMemory_11 : decode cX0_setMemory 11 = .ok (.ireturn, 1) := by decide +kernel
theorem dX0_setMemory_12 : decode cX0_setMemory 12 = .ok (.aload_n 0, 1) := by decide +kernel
theorem dX0_setMemory_13 : decode cX0_setMemory 13 = .ok (.getfield 26, 3) := by decide +kernel
theorem dX0_setMemory_16 : decode cX0_setMemory 16 = .ok (.iload_n 1, 1) := by decide +kernel
theorem dX0_setMemory_17 : decode cX0_setMemory 17 = .ok (.iload_n 2, 1) := by decide +kernel
theorem dX0_setMemory_18 : decode cX0_setMemory 18 = .ok (.iastore, 1) := by decide +kernel
theorem dX0_setMemory_19 : decode cX0_setMemory 19 = .ok (.iconst 1, 1) := by decide +kernel
theorem dX0_setMemory_20 : decode cX0_setMemory 20 = .ok (.ireturn, 1) := by decide +kernel
end
section
set_option maxRecDepth 100000
theorem dX1_init_0 : decode cX1_init 0 = .ok (.aload_n 0, 1) := by decide +kernel
theorem dX1_init_1 : decode cX1_init 1 = .ok (.invokespecial 1, 3) := by decide +kernel
theorem dX1_init_4 : decode cX1_init 4 = .ok (.aload_n 0, 1) := by decide +kernel
theorem dX1_init_5 : decode cX1_init 5 = .ok (.iconst 0, 1) := by decide +kernel
theorem dX1_init_6 : decode cX1_init 6 = .ok (.putfield 7, 3) := by decide +kernel
theorem dX1_init_9 : decode cX1_init 9 = .ok (.aload_n 0, 1) := by decide +kernel
theorem dX1_init_10 : decode cX1_init 10 = .ok (.bipush 20, 2) := by decide +kernel
theorem dX1_init_12 : decode cX1_init 12 = .ok (.newarray .int, 2) := by decide +kernel
theorem dX1_init_14 : decode cX1_init 14 = .ok (.putfield 13, 3) := by decide +kernel
theorem dX1_init_17 : decode cX1_init 17 = .ok (.aload_n 0, 1) := by decide +kernel
theorem dX1_init_18 : decode cX1_init 18 = .ok (.bipush 20, 2) := by decide +kernel
theorem dX1_init_20 : decode cX1_init 20 = .ok (.newarray .int, 2) := by decide +kernel
theorem dX1_init_22 : decode cX1_init 22 = .ok (.putfield 17, 3) := by decide +kernel
theorem dX1_init_25 : decode cX1_init 25 = .ok (.aload_n 0, 1) := by decide +kernel
theorem dX1_init_26 : decode cX1_init 26 = .ok (.bipush 20, 2) := by decide +kernel
theorem dX1_init_28 : decode cX1_init 28 = .ok (.newarray .int, 2) := by decide +kernel
theorem dX1_init_30 : decode cX1_init 30 = .ok (.putfield 20, 3) := by decide +kernel
theorem dX1_init_33 : decode cX1_init 33 = .ok (.aload_n 0, 1) := by decide +kernel
theorem dX1_init_34 : decode cX1_init 34 = .ok (.bipush 20, 2) := by decide +kernel
theorem dX1_init_36 : decode cX1_init 36 = .ok (.newarray .int, 2) := by decide +kernel
theorem dX1_init_38 : decode cX1_init 38 = .ok (.putfield 23, 3) := by decide +kernel
theorem dX1_init_41 : decode cX1_init 41 = .ok (.aload_n 0, 1) := by decide +kernel
theorem dX1_init_42 : decode cX1_init 42 = .ok (.bipush 6, 2) := by decide +kernel
theorem dX1_init_44 : decode cX1_init 44 = .ok (.newarray .int, 2) := by decide +kernel
theorem dX1_init_46 : decode cX1_init 46 = .ok (.putfield 26, 3) := by decide +kernel
theorem dX1_init_49 : decode cX1_init 49 = .ok (.aload_n 0, 1) := by decide +kernel
theorem dX1_init_50 : decode cX1_init 50 = .ok (.bipush 16, 2) := by decide +kernel
theorem dX1_init_52 : decode cX1_init 52 = .ok (.newarray .int, 2) := by decide +kernel
theorem dX1_init_54 : decode cX1_init 54 = .ok (.putfield 29, 3) := by decide +kernel
theorem dX1_init_57 : decode cX1_init 57 = .ok (.aload_n 0, 1) := by decide +kernel
theorem dX1_init_58 : decode cX1_init 58 = .ok (.iconst 0, 1) := by decide +kernel
theorem dX1_init_59 : decode cX1_init 59 = .ok (.putfield 32, 3) := by decide +kernel
theorem dX1_init_62 : decode cX1_init 62 = .ok (.aload_n 0, 1) := by decide +kernel
theorem dX1_init_63 : decode cX1_init 63 = .ok (.bipush 16, 2) := by decide +kernel
theorem dX1_init_65 : decode cX1_init 65 = .ok (.newarray .boolean, 2) := by decide +kernel
theorem dX1_init_67 : decode cX1_init 67 = .ok (.putfield 35, 3) := by decide +kernel
theorem dX1_init_70 : decode cX1_init 70 = .ok (.return_, 1) := by decide +kernel
theorem dX1_emit_0 : decode cX1_emit 0 = .ok (.aload_n 0, 1) := by decide +kernel
theorem dX1_emit_1 : decode cX1_emit 1 = .ok (.getfield 7, 3) := by decide +kernel
theorem dX1_emit_4 : decode cX1_emit 4 = .ok (.bipush 20, 2) := by decide +kernel
theorem dX1_emit_6 : decode cX1_emit 6 = .ok (.if_icmp .ne 6, 3) := by decide +kernel
theorem dX1_emit_9 : decode cX1_emit 9 = .ok (.bipush (-2), 2) := by decide +kernel
theorem dX1_emit_11 : decode cX1_emit 11 = .ok (.ireturn, 1) := by decide +kernel
theorem dX1_emit_12 : decode cX1_emit 12 = .ok (.iload_n 1, 1) := by decide +kernel
theorem dX1_emit_13 : decode cX1_emit 13 = .ok (.ifCond .lt 17, 3) := by decide +kernel
theorem dX1_emit_16 : decode cX1_emit 16 = .ok (.iload_n 1, 1) := by decide +kernel
theorem dX1_emit_17 : decode cX1_emit 17 = .ok (.bipush 6, 2) := by decide +kernel
theorem dX1_emit_19 : decode cX1_emit 19 = .ok (.if_icmp .gt 11, 3) := by decide +kernel
theorem dX1_emit_22 : decode cX1_emit 22 = .ok (.aload_n 0, 1) := by decide +kernel
theorem dX1_emit_23 : decode cX1_emit 23 = .ok (.iload_n 2, 1) := by decide +kernel
theorem dX1_emit_24 : decode cX1_emit 24 = .ok (.invokevirtual 39, 3) := by decide +kernel
theorem dX1_emit_27 : decode cX1_emit 27 = .ok (.ifCond .ne 5, 3) := by decide +kernel
theorem dX1_emit_30 : decode cX1_emit 30 = .ok (.iconst (-1), 1) := by decide +kernel
theorem dX1_emit_31 : decode cX1_emit 31 = .ok (.ireturn, 1) := by decide +kernel
theorem dX1_emit_32 : decode cX1_emit 32 = .ok (.iload_n 1, 1) := by decide +kernel
theorem dX1_emit_33 : decode cX1_emit 33 = .ok (.iconst 1, 1) := by decide +kernel
theorem dX1_emit_34 : decode cX1_emit 34 = .ok (.if_icmp .lt 8, 3) := by decide +kernel
theorem dX1_emit_37 : decode cX1_emit 37 = .ok (.iload_n 1, 1) := by decide +kernel
theorem dX1_emit_38 : decode cX1_emit 38 = .ok (.iconst 3, 1) := by decide +kernel
theorem dX1_emit_39 : decode cX1_emit 39 = .ok (.if_icmp .le 9, 3) := by decide +kernel
theorem dX1_emit_42 : decode cX1_emit 42 = .ok (.iload_n 1, 1) := by decide +kernel
theorem dX1_emit_43 : decode cX1_emit 43 = .ok (.bipush 6, 2) := by decide +kernel
theorem dX1_emit_45 : decode cX1_emit 45 = .ok (.if_icmp .ne 7, 3) := by decide +kernel
theorem dX1_emit_48 : decode cX1_emit 48 = .ok (.iconst 1, 1) := by decide +kernel
theorem dX1_emit_49 : decode cX1_emit 49 = .ok (.goto 4, 3) := by decide +kernel
theorem dX1_emit_52 : decode cX1_emit 52 = .ok (.iconst 0, 1) := by decide +kernel
theorem dX1_emit_53 : decode cX1_emit 53 = .ok (.istore 5, 2) := by decide +kernel
theorem dX1_emit_55 : decode cX1_emit 55 = .ok (.iload_n 1, 1) := by decide +kernel
theorem dX1_emit_56 : decode cX1_emit 56 = .ok (.ifCond .eq 11, 3) := by decide +kernel
theorem dX1_emit_59 : decode cX1_emit 59 = .ok (.aload_n 0, 1) := by decide +kernel
theorem dX1_emit_60 : decode cX1_emit 60 = .ok (.iload_n 3, 1) := by decide +kernel
theorem dX1_emit_61 : decode cX1_emit 61 = .ok (.invokevirtual 39, 3) := by decide +kernel
theorem dX1_emit_64 : decode cX1_emit 64 = .ok (.ifCond .eq 17, 3) := by decide +kernel
theorem dX1_emit_67 : decode cX1_emit 67 = .ok (.iload 5, 2) := by decide +kernel
theorem dX1_emit_69 : decode cX1_emit 69 = .ok (.ifCond .eq 14, 3) := by decide +kernel
theorem dX1_emit_72 : decode cX1_emit 72 = .ok (.aload_n 0, 1) := by decide +kernel
theorem dX1_emit_73 : decode cX1_emit 73 = .ok (.iload 4, 2) := by decide +kernel
theorem dX1_emit_75 : decode cX1_emit 75 = .ok (.invokevirtual 39, 3) := by decide +kernel
theorem dX1_emit_78 : decode cX1_emit 78 = .ok (.ifCond .ne 5, 3) := by decide +kernel
theorem dX1_emit_81 : decode cX1_emit 81 = .ok (.iconst (-1), 1) := by decide +kernel
theorem dX1_emit_82 : decode cX1_emit 82 = .ok (.ireturn, 1) := by decide +kernel
theorem dX1_emit_83 : decode cX1_emit 83 = .ok (.aload_n 0, 1) := by decide +kernel
theorem dX1_emit_84 : decode cX1_emit 84 = .ok (.getfield 13, 3) := by decide +kernel
theorem dX1_emit_87 : decode cX1_emit 87 = .ok (.aload_n 0, 1) := by decide +kernel
theorem dX1_emit_88 : decode cX1_emit 88 = .ok (.getfield 7, 3) := by decide +kernel
theorem dX1_emit_91 : decode cX1_emit 91 = .ok (.iload_n 1, 1) := by decide +kernel
theorem dX1_emit_92 : decode cX1_emit 92 = .ok (.iastore, 1) := by decide +kernel
theorem dX1_emit_93 : decode cX1_emit 93 = .ok (.aload_n 0, 1) := by decide +kernel
theorem dX1_emit_94 : decode cX1_emit 94 = .ok (.getfield 17, 3) := by decide +kernel
theorem dX1_emit_97 : decode cX1_emit 97 = .ok (.aload_n 0, 1) := by decide +kernel
theorem dX1_emit_98 : decode cX1_emit 98 = .ok (.getfield 7, 3) := by decide +kernel
theorem dX1_emit_101 : decode cX1_emit 101 = .ok (.iload_n 2, 1) := by decide +kernel
theorem dX1_emit_102 : decode cX1_emit 102 = .ok (.iastore, 1) := by decide +kernel
theorem dX1_emit_103 : decode cX1_emit 103 = .ok (.aload_n 0, 1) := by decide +kernel
theorem dX1_emit_104 : decode cX1_emit 104 = .ok (.getfield 20, 3) := by decide +kernel
theorem dX1_emit_107 : decode cX1_emit 107 = .ok (.aload_n 0, 1) := by decide +kernel
theorem dX1_emit_108 : decode cX1_emit 108 = .ok (.getfield 7, 3) := by decide +kernel
theorem dX1_emit_111 : decode cX1_emit 111 = .ok (.iload_n 3, 1) := by decide +kernel
theorem dX1_emit_112 : decode cX1_emit 112 = .ok (.iastore, 1) := by decide +kernel
theorem dX1_emit_113 : decode cX1_emit 113 = .ok (.aload_n 0, 1) := by decide +kernel
theorem dX1_emit_114 : decode cX1_emit 114 = .ok (.getfield 23, 3) := by decide +kernel
theorem dX1_emit_117 : decode cX1_emit 117 = .ok (.aload_n 0, 1) := by decide +kernel
theorem dX1_emit_118 : decode cX1_emit 118 = .ok (.getfield 7, 3) := by decide +kernel
theorem dX1_emit_121 : decode cX1_emit 121 = .ok (.iload 4, 2) := by decide +kernel
theorem dX1_emit_123 : decode cX1_emit 123 = .ok (.iastore, 1) := by decide +kernel
theorem dX1_emit_124 : decode cX1_emit 124 = .ok (.aload_n 0, 1) := by decide +kernel
theorem dX1_emit_125 : decode cX1_emit 125 = .ok (.dup, 1) := by decide +kernel
theorem dX1_emit_126 : decode cX1_emit 126 = .ok (.getfield 7, 3) := by decide +kernel
theorem dX1_emit_129 : decode cX1_emit 129 = .ok (.iconst 1, 1) := by decide +kernel
theorem dX1_emit_130 : decode cX1_emit 130 = .ok (.iadd, 1) := by decide +kernel
theorem dX1_emit_131 : decode cX1_emit 131 = .ok (.putfield 7, 3) := by decide +kernel
theorem dX1_emit_134 : decode cX1_emit 134 = .ok (.aload_n 0, 1) := by decide +kernel
theorem dX1_emit_135 : decode cX1_emit 135 = .ok (.getfield 7, 3) := by decide +kernel
theorem dX1_emit_138 : decode cX1_emit 138 = .ok (.ireturn, 1) := by decide +kernel
theorem dX1_isRegister_0 : decode cX1_isRegister 0 = .ok (.iload_n 1, 1) := by decide +kernel
theorem dX1_isRegister_1 : decode cX1_isRegister 1 = .ok (.ifCond .lt 12, 3) := by decide +kernel
theorem dX1_isRegister_4 : decode cX1_isRegister 4 = .ok (.iload_n 1, 1) := by decide +kernel
theorem dX1_isRegister_5 : decode cX1_isRegister 5 = .ok (.iconst 5, 1) := by decide +kernel
theorem dX1_isRegister_6 : decode cX1_isRegister 6 = .ok (.if_icmp .gt 7, 3) := by decide +kernel
theorem dX1_isRegister_9 : decode cX1_isRegister 9 = .ok (.iconst 1, 1) := by decide +kernel
theorem dX1_isRegister_10 : decode cX1_isRegister 10 = .ok (.goto 4, 3) := by decide +kernel
theorem dX1_isRegister_13 : decode cX1_isRegister 13 = .ok (.iconst 0, 1) := by decide +kernel
theorem dX1_isRegister_14 : decode cX1_isRegister 14 = .ok (.ireturn, 1) := by decide +kernel
theorem dX1_retract_0 : decode cX1_retract 0 = .ok (.aload_n 0, 1) := by decide +kernel
theorem dX1_retract_1 : decode cX1_retract 1 = .ok (.getfield 7, 3) := by decide +kernel
theorem dX1_retract_4 : decode cX1_retract 4 = .ok (.ifCond .ne 5, 3) := by decide +kernel
theorem dX1_retract_7 : decode cX1_retract 7 = .ok (.iconst (-1), 1) := by decide +kernel
theorem dX1_retract_8 : decode cX1_retract 8 = .ok (.ireturn, 1) := by decide +kernel
theorem dX1_retract_9 : decode cX1_retract 9 = .ok (.aload_n 0, 1) := by decide +kernel
theorem dX1_retract_10 : decode cX1_retract 10 = .ok (.dup, 1) := by decide +kernel
theorem dX1_retract_11 : decode cX1_retract 11 = .ok (.getfield 7, 3) := by decide +kernel
theorem dX1_retract_14 : decode cX1_retract 14 = .ok (.iconst 1, 1) := by decide +kernel
theorem dX1_retract_15 : decode cX1_retract 15 = .ok (.isub, 1) := by decide +kernel
theorem dX1_retract_16 : decode cX1_retract 16 = .ok (.putfield 7, 3) := by decide +kernel
theorem dX1_retract_19 : decode cX1_retract 19 = .ok (.aload_n 0, 1) := by decide +kernel
theorem dX1_retract_20 : decode cX1_retract 20 = .ok (.getfield 7, 3) := by decide +kernel
theorem dX1_retract_23 : decode cX1_retract 23 = .ok (.ireturn, 1) := by decide +kernel
theorem dX1_drop_0 : decode cX1_drop 0 = .ok (.aload_n 0, 1) := by decide +kernel
theorem dX1_drop_1 : decode cX1_drop 1 = .ok (.getfield 7, 3) := by decide +kernel
theorem dX1_drop_4 : decode cX1_drop 4 = .ok (.istore_n 1, 1) := by decide +kernel
theorem dX1_drop_5 : decode cX1_drop 5 = .ok (.aload_n 0, 1) := by decide +kernel
theorem dX1_drop_6 : decode cX1_drop 6 = .ok (.iconst 0, 1) := by decide +kernel
theorem dX1_drop_7 : decode cX1_drop 7 = .ok (.putfield 7, 3) := by decide +kernel
theorem dX1_drop_10 : decode cX1_drop 10 = .ok (.iload_n 1, 1) := by decide +kernel
theorem dX1_drop_11 : decode cX1_drop 11 = .ok (.ireturn, 1) := by decide +kernel
theorem dX1_run_0 : decode cX1_run 0 = .ok (.aload_n 0, 1) := by decide +kernel
theorem dX1_run_1 : decode cX1_run 1 = .ok (.iconst 0, 1) := by decide +kernel
theorem dX1_run_2 : decode cX1_run 2 = .ok (.putfield 32, 3) := by decide +kernel
theorem dX1_run_5 : decode cX1_run 5 = .ok (.iconst 0, 1) := by decide +kernel
theorem dX1_run_6 : decode cX1_run 6 = .ok (.istore_n 2, 1) := by decide +kernel
theorem dX1_run_7 : decode cX1_run 7 = .ok (.iload_n 2, 1) := by decide +kernel
theorem dX1_run_8 : decode cX1_run 8 = .ok (.bipush 16, 2) := by decide +kernel
theorem dX1_run_10 : decode cX1_run 10 = .ok (.if_icmp .ge 16, 3) := by decide +kernel
theorem dX1_run_13 : decode cX1_run 13 = .ok (.aload_n 0, 1) := by decide +kernel
theorem dX1_run_14 : decode cX1_run 14 = .ok (.getfield 35, 3) := by decide +kernel
theorem dX1_run_17 : decode cX1_run 17 = .ok (.iload_n 2, 1) := by decide +kernel
theorem dX1_run_18 : decode cX1_run 18 = .ok (.iconst 0, 1) := by decide +kernel
theorem dX1_run_19 : decode cX1_run 19 = .ok (.bastore, 1) := by decide +kernel
theorem dX1_run_20 : decode cX1_run 20 = .ok (.iinc 2 1, 3) := by decide +kernel
theorem dX1_run_23 : decode cX1_run 23 = .ok (.goto (-16), 3) := by decide +kernel
theorem dX1_run_26 : decode cX1_run 26 = .ok (.iconst 0, 1) := by decide +kernel
theorem dX1_run_27 : decode cX1_run 27 = .ok (.istore_n 2, 1) := by decide +kernel
theorem dX1_run_28 : decode cX1_run 28 = .ok (.iload_n 2, 1) := by decide +kernel
theorem dX1_run_29 : decode cX1_run 29 = .ok (.aload_n 0, 1) := by decide +kernel
theorem dX1_run_30 : decode cX1_run 30 = .ok (.getfield 7, 3) := by decide +kernel
theorem dX1_run_33 : decode cX1_run 33 = .ok (.if_icmp .ge 14, 3) := by decide +kernel
theorem dX1_run_36 : decode cX1_run 36 = .ok (.aload_n 0, 1) := by decide +kernel
theorem dX1_run_37 : decode cX1_run 37 = .ok (.iload_n 2, 1) := by decide +kernel
theorem dX1_run_38 : decode cX1_run 38 = .ok (.invokevirtual 47, 3) := by decide +kernel
theorem dX1_run_41 : decode cX1_run 41 = .ok (.iinc 2 1, 3) := by decide +kernel
theorem dX1_run_44 : decode cX1_run 44 = .ok (.goto (-16), 3) := by decide +kernel
theorem dX1_run_47 : decode cX1_run 47 = .ok (.aload_n 0, 1) := by decide +kernel
theorem dX1_run_48 : decode cX1_run 48 = .ok (.getfield 7, 3) := by decide +kernel
theorem dX1_run_51 : decode cX1_run 51 = .ok (.ireturn, 1) := by decide +kernel
theorem dX1_execute_0 : decode cX1_execute 0 = .ok (.aload_n 0, 1) := by decide +kernel
theorem dX1_execute_1 : decode cX1_execute 1 = .ok (.getfield 13, 3) := by decide +kernel
theorem dX1_execute_4 : decode cX1_execute 4 = .ok (.iload_n 1, 1) := by decide +kernel
theorem dX1_execute_5 : decode cX1_execute 5 = .ok (.iaload, 1) := by decide +kernel
theorem dX1_execute_6 : decode cX1_execute 6 = .ok (.iconst 4, 1) := by decide +kernel
theorem dX1_execute_7 : decode cX1_execute 7 = .ok (.if_icmp .eq 13, 3) := by decide +kernel
theorem dX1_execute_10 : decode cX1_execute 10 = .ok (.aload_n 0, 1) := by decide +kernel
theorem dX1_execute_11 : decode cX1_execute 11 = .ok (.getfield 13, 3) := by decide +kernel
theorem dX1_execute_14 : decode cX1_execute 14 = .ok (.iload_n 1, 1) := by decide +kernel
theorem dX1_execute_15 : decode cX1_execute 15 = .ok (.iaload, 1) := by decide +kernel
theorem dX1_execute_16 : decode cX1_execute 16 = .ok (.iconst 5, 1) := by decide +kernel
theorem dX1_execute_17 : decode cX1_execute 17 = .ok (.if_icmp .ne 101, 3) := by decide +kernel
theorem dX1_execute_20 : decode cX1_execute 20 = .ok (.aload_n 0, 1) := by decide +kernel
theorem dX1_execute_21 : decode cX1_execute 21 = .ok (.getfield 26, 3) := by decide +kernel
theorem dX1_execute_24 : decode cX1_execute 24 = .ok (.aload_n 0, 1) := by decide +kernel
theorem dX1_execute_25 : decode cX1_execute 25 = .ok (.getfield 20, 3) := by decide +kernel
theorem dX1_execute_28 : decode cX1_execute 28 = .ok (.iload_n 1, 1) := by decide +kernel
theorem dX1_execute_29 : decode cX1_execute 29 = .ok (.iaload, 1) := by decide +kernel
theorem dX1_execute_30 : decode cX1_execute 30 = .ok (.iaload, 1) := by decide +kernel
theorem dX1_execute_31 : decode cX1_execute 31 = .ok (.aload_n 0, 1) := by decide +kernel
theorem dX1_execute_32 : decode cX1_execute 32 = .ok (.getfield 23, 3) := by decide +kernel
theorem dX1_execute_35 : decode cX1_execute 35 = .ok (.iload_n 1, 1) := by decide +kernel
theorem dX1_execute_36 : decode cX1_execute 36 = .ok (.iaload, 1) := by decide +kernel
theorem dX1_execute_37 : decode cX1_execute 37 = .ok (.iadd, 1) := by decide +kernel
theorem dX1_execute_38 : decode cX1_execute 38 = .ok (.bipush 15, 2) := by decide +kernel
theorem dX1_execute_40 : decode cX1_execute 40 = .ok (.iand, 1) := by decide +kernel
theorem dX1_execute_41 : decode cX1_execute 41 = .ok (.istore_n 2, 1) := by decide +kernel
theorem dX1_execute_42 : decode cX1_execute 42 = .ok (.aload_n 0, 1) := by decide +kernel
theorem dX1_execute_43 : decode cX1_execute 43 = .ok (.getfield 13, 3) := by decide +kernel
theorem dX1_execute_46 : decode cX1_execute 46 = .ok (.iload_n 1, 1) := by decide +kernel
theorem dX1_execute_47 : decode cX1_execute 47 = .ok (.iaload, 1) := by decide +kernel
theorem dX1_execute_48 : decode cX1_execute 48 = .ok (.iconst 5, 1) := by decide +kernel
theorem dX1_execute_49 : decode cX1_execute 49 = .ok (.if_icmp .ne 30, 3) := by decide +kernel
theorem dX1_execute_52 : decode cX1_execute 52 = .ok (.aload_n 0, 1) := by decide +kernel
theorem dX1_execute_53 : decode cX1_execute 53 = .ok (.getfield 29, 3) := by decide +kernel
theorem dX1_execute_56 : decode cX1_execute 56 = .ok (.iload_n 2, 1) := by decide +kernel
theorem dX1_execute_57 : decode cX1_execute 57 = .ok (.aload_n 0, 1) := by decide +kernel
theorem dX1_execute_58 : decode cX1_execute 58 = .ok (.getfield 26, 3) := by decide +kernel
theorem dX1_execute_61 : decode cX1_execute 61 = .ok (.aload_n 0, 1) := by decide +kernel
theorem dX1_execute_62 : decode cX1_execute 62 = .ok (.getfield 17, 3) := by decide +kernel
theorem dX1_execute_65 : decode cX1_execute 65 = .ok (.iload_n 1, 1) := by decide +kernel
theorem dX1_execute_66 : decode cX1_execute 66 = .ok (.iaload, 1) := by decide +kernel
theorem dX1_execute_67 : decode cX1_execute 67 = .ok (.iaload, 1) := by decide +kernel
theorem dX1_execute_68 : decode cX1_execute 68 = .ok (.iastore, 1) := by decide +kernel
theorem dX1_execute_69 : decode cX1_execute 69 = .ok (.aload_n 0, 1) := by decide +kernel
theorem dX1_execute_70 : decode cX1_execute 70 = .ok (.getfield 35, 3) := by decide +kernel
theorem dX1_execute_73 : decode cX1_execute 73 = .ok (.iload_n 2, 1) := by decide +kernel
theorem dX1_execute_74 : decode cX1_execute 74 = .ok (.iconst 1, 1) := by decide +kernel
theorem dX1_execute_75 : decode cX1_execute 75 = .ok (.bastore, 1) := by decide +kernel
theorem dX1_execute_76 : decode cX1_execute 76 = .ok (.goto 39, 3) := by decide +kernel
theorem dX1_execute_79 : decode cX1_execute 79 = .ok (.aload_n 0, 1) := by decide +kernel
theorem dX1_execute_80 : decode cX1_execute 80 = .ok (.getfield 35, 3) := by decide +kernel
theorem dX1_execute_83 : decode cX1_execute 83 = .ok (.iload_n 2, 1) := by decide +kernel
theorem dX1_execute_84 : decode cX1_execute 84 = .ok (.baload, 1) := by decide +kernel
theorem dX1_execute_85 : decode cX1_execute 85 = .ok (.ifCond .eq 13, 3) := by decide +kernel
theorem dX1_execute_88 : decode cX1_execute 88 = .ok (.aload_n 0, 1) := by decide +kernel
theorem dX1_execute_89 : decode cX1_execute 89 = .ok (.dup, 1) := by decide +kernel
theorem dX1_execute_90 : decode cX1_execute 90 = .ok (.getfield 32, 3) := by decide +kernel
theorem dX1_execute_93 : decode cX1_execute 93 = .ok (.iconst 1, 1) := by decide +kernel
theorem dX1_execute_94 : decode cX1_execute 94 = .ok (.iadd, 1) := by decide +kernel
theorem dX1_execute_95 : decode cX1_execute 95 = .ok (.putfield 32, 3) := by decide +kernel
theorem dX1_execute_98 : decode cX1_execute 98 = .ok (.aload_n 0, 1) := by decide +kernel
theorem dX1_execute_99 : decode cX1_execute 99 = .ok (.getfield 26, 3) := by decide +kernel
theorem dX1_execute_102 : decode cX1_execute 102 = .ok (.aload_n 0, 1) := by decide +kernel
theorem dX1_execute_103 : decode cX1_execute 103 = .ok (.getfield 17, 3) := by decide +kernel
theorem dX1_execute_106 : decode cX1_execute 106 = .ok (.iload_n 1, 1) := by decide +kernel
theorem dX1_execute_107 : decode cX1_execute 107 = .ok (.iaload, 1) := by decide +kernel
theorem dX1_execute_108 : decode cX1_execute 108 = .ok (.aload_n 0, 1) := by decide +kernel
theorem dX1_execute_109 : decode cX1_execute 109 = .ok (.getfield 29, 3) := by decide +kernel
theorem dX1_execute_112 : decode cX1_execute 112 = .ok (.iload_n 2, 1) := by decide +kernel
theorem dX1_execute_113 : decode cX1_execute 113 = .ok (.iaload, 1) := by decide +kernel
theorem dX1_execute_114 : decode cX1_execute 114 = .ok (.iastore, 1) := by decide +kernel
theorem dX1_execute_115 : decode cX1_execute 115 = .ok (.goto 21, 3) := by decide +kernel
theorem dX1_execute_118 : decode cX1_execute 118 = .ok (.aload_n 0, 1) := by decide +kernel
theorem dX1_execute_119 : decode cX1_execute 119 = .ok (.iload_n 1, 1) := by decide +kernel
theorem dX1_execute_120 : decode cX1_execute 120 = .ok (.invokevirtual 43, 3) := by decide +kernel
theorem dX1_execute_123 : decode cX1_execute 123 = .ok (.istore_n 2, 1) := by decide +kernel
theorem dX1_execute_124 : decode cX1_execute 124 = .ok (.aload_n 0, 1) := by decide +kernel
theorem dX1_execute_125 : decode cX1_execute 125 = .ok (.getfield 26, 3) := by decide +kernel
theorem dX1_execute_128 : decode cX1_execute 128 = .ok (.aload_n 0, 1) := by decide +kernel
theorem dX1_execute_129 : decode cX1_execute 129 = .ok (.getfield 17, 3) := by decide +kernel
theorem dX1_execute_132 : decode cX1_execute 132 = .ok (.iload_n 1, 1) := by decide +kernel
theorem dX1_execute_133 : decode cX1_execute 133 = .ok (.iaload, 1) := by decide +kernel
theorem dX1_execute_134 : decode cX1_execute 134 = .ok (.iload_n 2, 1) := by decide +kernel
theorem dX1_execute_135 : decode cX1_execute 135 = .ok (.iastore, 1) := by decide +kernel
theorem dX1_execute_136 : decode cX1_execute 136 = .ok (.return_, 1) := by decide +kernel
theorem dX1_result_0 : decode cX1_result 0 = .ok (.aload_n 0, 1) := by decide +kernel
theorem dX1_result_1 : decode cX1_result 1 = .ok (.getfield 13, 3) := by decide +kernel
theorem dX1_result_4 : decode cX1_result 4 = .ok (.iload_n 1, 1) := by decide +kernel
theorem dX1_result_5 : decode cX1_result 5 = .ok (.iaload, 1) := by decide +kernel
theorem dX1_result_6 : decode cX1_result 6 = .ok (.ifCond .ne 10, 3) := by decide +kernel
theorem dX1_result_9 : decode cX1_result 9 = .ok (.aload_n 0, 1) := by decide +kernel
theorem dX1_result_10 : decode cX1_result 10 = .ok (.getfield 20, 3) := by decide +kernel
theorem dX1_result_13 : decode cX1_result 13 = .ok (.iload_n 1, 1) := by decide +kernel
theorem dX1_result_14 : decode cX1_result 14 = .ok (.iaload, 1) := by decide +kernel
theorem dX1_result_15 : decode cX1_result 15 = .ok (.ireturn, 1) := by decide +kernel
theorem dX1_result_16 : decode cX1_result 16 = .ok (.aload_n 0, 1) := by decide +kernel
theorem dX1_result_17 : decode cX1_result 17 = .ok (.getfield 26, 3) := by decide +kernel
theorem dX1_result_20 : decode cX1_result 20 = .ok (.aload_n 0, 1) := by decide +kernel
theorem dX1_result_21 : decode cX1_result 21 = .ok (.getfield 20, 3) := by decide +kernel
theorem dX1_result_24 : decode cX1_result 24 = .ok (.iload_n 1, 1) := by decide +kernel
theorem dX1_result_25 : decode cX1_result 25 = .ok (.iaload, 1) := by decide +kernel
theorem dX1_result_26 : decode cX1_result 26 = .ok (.iaload, 1) := by decide +kernel
theorem dX1_result_27 : decode cX1_result 27 = .ok (.istore_n 2, 1) := by decide +kernel
theorem dX1_result_28 : decode cX1_result 28 = .ok (.aload_n 0, 1) := by decide +kernel
theorem dX1_result_29 : decode cX1_result 29 = .ok (.getfield 13, 3) := by decide +kernel
theorem dX1_result_32 : decode cX1_result 32 = .ok (.iload_n 1, 1) := by decide +kernel
theorem dX1_result_33 : decode cX1_result 33 = .ok (.iaload, 1) := by decide +kernel
theorem dX1_result_34 : decode cX1_result 34 = .ok (.bipush 6, 2) := by decide +kernel
theorem dX1_result_36 : decode cX1_result 36 = .ok (.if_icmp .ne 33, 3) := by decide +kernel
theorem dX1_result_39 : decode cX1_result 39 = .ok (.iload_n 2, 1) := by decide +kernel
theorem dX1_result_40 : decode cX1_result 40 = .ok (.ifCond .le 17, 3) := by decide +kernel
theorem dX1_result_43 : decode cX1_result 43 = .ok (.aload_n 0, 1) := by decide +kernel
theorem dX1_result_44 : decode cX1_result 44 = .ok (.getfield 26, 3) := by decide +kernel
theorem dX1_result_47 : decode cX1_result 47 = .ok (.aload_n 0, 1) := by decide +kernel
theorem dX1_result_48 : decode cX1_result 48 = .ok (.getfield 23, 3) := by decide +kernel
theorem dX1_result_51 : decode cX1_result 51 = .ok (.iload_n 1, 1) := by decide +kernel
theorem dX1_result_52 : decode cX1_result 52 = .ok (.iaload, 1) := by decide +kernel
theorem dX1_result_53 : decode cX1_result 53 = .ok (.iaload, 1) := by decide +kernel
theorem dX1_result_54 : decode cX1_result 54 = .ok (.goto 14, 3) := by decide +kernel
theorem dX1_result_57 : decode cX1_result 57 = .ok (.aload_n 0, 1) := by decide +kernel
theorem dX1_result_58 : decode cX1_result 58 = .ok (.getfield 26, 3) := by decide +kernel
theorem dX1_result_61 : decode cX1_result 61 = .ok (.aload_n 0, 1) := by decide +kernel
theorem dX1_result_62 : decode cX1_result 62 = .ok (.getfield 17, 3) := by decide +kernel
theorem dX1_result_65 : decode cX1_result 65 = .ok (.iload_n 1, 1) := by decide +kernel
theorem dX1_result_66 : decode cX1_result 66 = .ok (.iaload, 1) := by decide +kernel
theorem dX1_result_67 : decode cX1_result 67 = .ok (.iaload, 1) := by decide +kernel
theorem dX1_result_68 : decode cX1_result 68 = .ok (.ireturn, 1) := by decide +kernel
theorem dX1_result_69 : decode cX1_result 69 = .ok (.aload_n 0, 1) := by decide +kernel
theorem dX1_result_70 : decode cX1_result 70 = .ok (.getfield 26, 3) := by decide +kernel
theorem dX1_result_73 : decode cX1_result 73 = .ok (.aload_n 0, 1) := by decide +kernel
theorem dX1_result_74 : decode cX1_result 74 = .ok (.getfield 23, 3) := by decide +kernel
theorem dX1_result_77 : decode cX1_result 77 = .ok (.iload_n 1, 1) := by decide +kernel
theorem dX1_result_78 : decode cX1_result 78 = .ok (.iaload, 1) := by decide +kernel
theorem dX1_result_79 : decode cX1_result 79 = .ok (.iaload, 1) := by decide +kernel
theorem dX1_result_80 : decode cX1_result 80 = .ok (.istore_n 3, 1) := by decide +kernel
theorem dX1_result_81 : decode cX1_result 81 = .ok (.aload_n 0, 1) := by decide +kernel
theorem dX1_result_82 : decode cX1_result 82 = .ok (.getfield 13, 3) := by decide +kernel
theorem dX1_result_85 : decode cX1_result 85 = .ok (.iload_n 1, 1) := by decide +kernel
theorem dX1_result_86 : decode cX1_result 86 = .ok (.iaload, 1) := by decide +kernel
theorem dX1_result_87 : decode cX1_result 87 = .ok (.iconst 1, 1) := by decide +kernel
theorem dX1_result_88 : decode cX1_result 88 = .ok (.if_icmp .ne 9, 3) := by decide +kernel
theorem dX1_result_91 : decode cX1_result 91 = .ok (.iload_n 2, 1) := by decide +kernel
theorem dX1_result_92 : decode cX1_result 92 = .ok (.iload_n 3, 1) := by decide +kernel
theorem dX1_result_93 : decode cX1_result 93 = .ok (.iadd, 1) := by decide +kernel
theorem dX1_result_94 : decode cX1_result 94 = .ok (.goto 22, 3) := by decide +kernel
theorem dX1_result_97 : decode cX1_result 97 = .ok (.aload_n 0, 1) := by decide +kernel
theorem dX1_result_98 : decode cX1_result 98 = .ok (.getfield 13, 3) := by decide +kernel
theorem dX1_result_101 : decode cX1_result 101 = .ok (.iload_n 1, 1) := by decide +kernel
theorem dX1_result_102 : decode cX1_result 102 = .ok (.iaload, 1) := by decide +kernel
theorem dX1_result_103 : decode cX1_result 103 = .ok (.iconst 2, 1) := by decide +kernel
theorem dX1_result_104 : decode cX1_result 104 = .ok (.if_icmp .ne 9, 3) := by decide +kernel
theorem dX1_result_107 : decode cX1_result 107 = .ok (.iload_n 2, 1) := by decide +kernel
theorem dX1_result_108 : decode cX1_result 108 = .ok (.iload_n 3, 1) := by decide +kernel
theorem dX1_result_109 : decode cX1_result 109 = .ok (.isub, 1) := by decide +kernel
theorem dX1_result_110 : decode cX1_result 110 = .ok (.goto 6, 3) := by decide +kernel
theorem dX1_result_113 : decode cX1_result 113 = .ok (.iload_n 2, 1) := by decide +kernel
theorem dX1_result_114 : decode cX1_result 114 = .ok (.iload_n 3, 1) := by decide +kernel
theorem dX1_result_115 : decode cX1_result 115 = .ok (.imul, 1) := by decide +kernel
theorem dX1_result_116 : decode cX1_result 116 = .ok (.ireturn, 1) := by decide +kernel
theorem dX1_fed_0 : decode cX1_fed 0 = .ok (.aload_n 0, 1) := by decide +kernel
theorem dX1_fed_1 : decode cX1_fed 1 = .ok (.getfield 32, 3) := by decide +kernel
theorem dX1_fed_4 : decode cX1_fed 4 = .ok (.ireturn, 1) := by decide +kernel
theorem dX1_written_0 : decode cX1_written 0 = .ok (.iconst 0, 1) := by decide +kernel
theorem dX1_written_1 : decode cX1_written 1 = .ok (.istore_n 1, 1) := by decide +kernel
theorem dX1_written_2 : decode cX1_written 2 = .ok (.iconst 0, 1) := by decide +kernel
theorem dX1_written_3 : decode cX1_written 3 = .ok (.istore_n 2, 1) := by decide +kernel
theorem dX1_written_4 : decode cX1_written 4 = .ok (.iload_n 2, 1) := by decide +kernel
theorem dX1_written_5 : decode cX1_written 5 = .ok (.bipush 16, 2) := by decide +kernel
theorem dX1_written_7 : decode cX1_written 7 = .ok (.if_icmp .ge 21, 3) := by decide +kernel
theorem dX1_written_10 : decode cX1_written 10 = .ok (.aload_n 0, 1) := by decide +kernel
theorem dX1_written_11 : decode cX1_written 11 = .ok (.getfield 35, 3) := by decide +kernel
theorem dX1_written_14 : decode cX1_written 14 = .ok (.iload_n 2, 1) := by decide +kernel
theorem dX1_written_15 : decode cX1_written 15 = .ok (.baload, 1) := by decide +kernel
theorem dX1_written_16 : decode cX1_written 16 = .ok (.ifCond .eq 6, 3) := by decide +kernel
theorem dX1_written_19 : decode cX1_written 19 = .ok (.iinc 1 1, 3) := by decide +kernel
theorem dX1_written_22 : decode cX1_written 22 = .ok (.iinc 2 1, 3) := by decide +kernel
theorem dX1_written_25 : decode cX1_written 25 = .ok (.goto (-21), 3) := by decide +kernel
theorem dX1_written_28 : decode cX1_written 28 = .ok (.iload_n 1, 1) := by decide +kernel
theorem dX1_written_29 : decode cX1_written 29 = .ok (.ireturn, 1) := by decide +kernel
theorem dX1_register_0 : decode cX1_register 0 = .ok (.aload_n 0, 1) := by decide +kernel
theorem dX1_register_1 : decode cX1_register 1 = .ok (.iload_n 1, 1) := by decide +kernel
theorem dX1_register_2 : decode cX1_register 2 = .ok (.invokevirtual 39, 3) := by decide +kernel
theorem dX1_register_5 : decode cX1_register 5 = .ok (.ifCond .eq 12, 3) := by decide +kernel
theorem dX1_register_8 : decode cX1_register 8 = .ok (.aload_n 0, 1) := by decide +kernel
theorem dX1_register_9 : decode cX1_register 9 = .ok (.getfield 26, 3) := by decide +kernel
theorem dX1_register_12 : decode cX1_register 12 = .ok (.iload_n 1, 1) := by decide +kernel
theorem dX1_register_13 : decode cX1_register 13 = .ok (.iaload, 1) := by decide +kernel
theorem dX1_register_14 : decode cX1_register 14 = .ok (.goto 4, 3) := by decide +kernel
theorem dX1_register_17 : decode cX1_register 17 = .ok (.iconst 0, 1) := by decide +kernel
theorem dX1_register_18 : decode cX1_register 18 = .ok (.ireturn, 1) := by decide +kernel
theorem dX1_setRegister_0 : decode cX1_setRegister 0 = .ok (.aload_n 0, 1) := by decide +kernel
theorem dX1_setRegister_1 : decode cX1_setRegister 1 = .ok (.iload_n 1, 1) := by decide +kernel
theorem dX1_setRegister_2 : decode cX1_setRegister 2 = .ok (.invokevirtual 39, 3) := by decide +kernel
theorem dX1_setRegister_5 : decode cX1_setRegister 5 = .ok (.ifCond .ne 5, 3) := by decide +kernel
theorem dX1_setRegister_8 : decode cX1_setRegister 8 = .ok (.iconst 0, 1) := by decide +kernel
theorem dX1_setRegister_9 : decode cX1_setRegister 9 = .ok (.ireturn, 1) := by decide +kernel
theorem dX1_setRegister_10 : decode cX1_setRegister 10 = .ok (.aload_n 0, 1) := by decide +kernel
theorem dX1_setRegister_11 : decode cX1_setRegister 11 = .ok (.getfield 26, 3) := by decide +kernel
theorem dX1_setRegister_14 : decode cX1_setRegister 14 = .ok (.iload_n 1, 1) := by decide +kernel
theorem dX1_setRegister_15 : decode cX1_setRegister 15 = .ok (.iload_n 2, 1) := by decide +kernel
theorem dX1_setRegister_16 : decode cX1_setRegister 16 = .ok (.iastore, 1) := by decide +kernel
theorem dX1_setRegister_17 : decode cX1_setRegister 17 = .ok (.iconst 1, 1) := by decide +kernel
theorem dX1_setRegister_18 : decode cX1_setRegister 18 = .ok (.ireturn, 1) := by decide +kernel
theorem dX1_memory_0 : decode cX1_memory 0 = .ok (.iload_n 1, 1) := by decide +kernel
theorem dX1_memory_1 : decode cX1_memory 1 = .ok (.ifCond .lt 18, 3) := by decide +kernel
theorem dX1_memory_4 : decode cX1_memory 4 = .ok (.iload_n 1, 1) := by decide +kernel
theorem dX1_memory_5 : decode cX1_memory 5 = .ok (.bipush 15, 2) := by decide +kernel
theorem dX1_memory_7 : decode cX1_memory 7 = .ok (.if_icmp .gt 12, 3) := by decide +kernel
theorem dX1_memory_10 : decode cX1_memory 10 = .ok (.aload_n 0, 1) := by decide +kernel
theorem dX1_memory_11 : decode cX1_memory 11 = .ok (.getfield 29, 3) := by decide +kernel
theorem dX1_memory_14 : decode cX1_memory 14 = .ok (.iload_n 1, 1) := by decide +kernel
theorem dX1_memory_15 : decode cX1_memory 15 = .ok (.iaload, 1) := by decide +kernel
theorem dX1_memory_16 : decode cX1_memory 16 = .ok (.goto 4, 3) := by decide +kernel
theorem dX1_memory_19 : decode cX1_memory 19 = .ok (.iconst 0, 1) := by decide +kernel
theorem dX1_memory_20 : decode cX1_memory 20 = .ok (.ireturn, 1) := by decide +kernel
theorem dX1_setMemory_0 : decode cX1_setMemory 0 = .ok (.iload_n 1, 1) := by decide +kernel
theorem dX1_setMemory_1 : decode cX1_setMemory 1 = .ok (.ifCond .lt 9, 3) := by decide +kernel
theorem dX1_setMemory_4 : decode cX1_setMemory 4 = .ok (.iload_n 1, 1) := by decide +kernel
theorem dX1_setMemory_5 : decode cX1_setMemory 5 = .ok (.bipush 15, 2) := by decide +kernel
theorem dX1_setMemory_7 : decode cX1_setMemory 7 = .ok (.if_icmp .le 5, 3) := by decide +kernel
theorem dX1_setMemory_10 : decode cX1_setMemory 10 = .ok (.iconst 0, 1) := by decide +kernel
theorem dX1_setMemory_11 : decode cX1_setMemory 11 = .ok (.ireturn, 1) := by decide +kernel
theorem dX1_setMemory_12 : decode cX1_setMemory 12 = .ok (.aload_n 0, 1) := by decide +kernel
theorem dX1_setMemory_13 : decode cX1_setMemory 13 = .ok (.getfield 29, 3) := by decide +kernel
theorem dX1_setMemory_16 : decode cX1_setMemory 16 = .ok (.iload_n 1, 1) := by decide +kernel
theorem dX1_setMemory_17 : decode cX1_setMemory 17 = .ok (.iload_n 2, 1) := by decide +kernel
theorem dX1_setMemory_18 : decode cX1_setMemory 18 = .ok (.iastore, 1) := by decide +kernel
theorem dX1_setMemory_19 : decode cX1_setMemory 19 = .ok (.iconst 1, 1) := by decide +kernel
theorem dX1_setMemory_20 : decode cX1_setMemory 20 = .ok (.ireturn, 1) := by decide +kernel
theorem dJ0_init_0 : decode cJ0_init 0 = .ok (.return_, 1) := by decide +kernel
end
section
set_option maxRecDepth 100000
theorem dL_law_0 : decode cL_law 0 = .ok (.new 7, 3) := by decide +kernel
theorem dL_law_3 : decode cL_law 3 = .ok (.dup, 1) := by decide +kernel
theorem dL_law_4 : decode cL_law 4 = .ok (.invokespecial 9, 3) := by decide +kernel
theorem dL_law_7 : decode cL_law 7 = .ok (.astore_n 1, 1) := by decide +kernel
theorem dL_law_8 : decode cL_law 8 = .ok (.new 10, 3) := by decide +kernel
theorem dL_law_11 : decode cL_law 11 = .ok (.dup, 1) := by decide +kernel
theorem dL_law_12 : decode cL_law 12 = .ok (.invokespecial 12, 3) := by decide +kernel
theorem dL_law_15 : decode cL_law 15 = .ok (.astore_n 2, 1) := by decide +kernel
theorem dL_law_16 : decode cL_law 16 = .ok (.iconst 0, 1) := by decide +kernel
theorem dL_law_17 : decode cL_law 17 = .ok (.istore_n 3, 1) := by decide +kernel
theorem dL_law_18 : decode cL_law 18 = .ok (.iload_n 3, 1) := by decide +kernel
theorem dL_law_19 : decode cL_law 19 = .ok (.aload_n 0, 1) := by decide +kernel
theorem dL_law_20 : decode cL_law 20 = .ok (.arraylength, 1) := by decide +kernel
theorem dL_law_21 : decode cL_law 21 = .ok (.iconst 5, 1) := by decide +kernel
theorem dL_law_22 : decode cL_law 22 = .ok (.isub, 1) := by decide +kernel
theorem dL_law_23 : decode cL_law 23 = .ok (.if_icmp .gt 311, 3) := by decide +kernel
theorem dL_law_26 : decode cL_law 26 = .ok (.aload_n 0, 1) := by decide +kernel
theorem dL_law_27 : decode cL_law 27 = .ok (.iload_n 3, 1) := by decide +kernel
theorem dL_law_28 : decode cL_law 28 = .ok (.iaload, 1) := by decide +kernel
theorem dL_law_29 : decode cL_law 29 = .ok (.bipush 15, 2) := by decide +kernel
theorem dL_law_31 : decode cL_law 31 = .ok (.iand, 1) := by decide +kernel
theorem dL_law_32 : decode cL_law 32 = .ok (.tableswitch 296 0 9 #[56, 109, 122, 135, 158, 171, 184, 207, 240, 263], 56) := by decide +kernel
theorem dL_law_88 : decode cL_law 88 = .ok (.aload_n 1, 1) := by decide +kernel
theorem dL_law_89 : decode cL_law 89 = .ok (.aload_n 0, 1) := by decide +kernel
theorem dL_law_90 : decode cL_law 90 = .ok (.iload_n 3, 1) := by decide +kernel
theorem dL_law_91 : decode cL_law 91 = .ok (.iconst 1, 1) := by decide +kernel
theorem dL_law_92 : decode cL_law 92 = .ok (.iadd, 1) := by decide +kernel
theorem dL_law_93 : decode cL_law 93 = .ok (.iaload, 1) := by decide +kernel
theorem dL_law_94 : decode cL_law 94 = .ok (.aload_n 0, 1) := by decide +kernel
theorem dL_law_95 : decode cL_law 95 = .ok (.iload_n 3, 1) := by decide +kernel
theorem dL_law_96 : decode cL_law 96 = .ok (.iconst 2, 1) := by decide +kernel
theorem dL_law_97 : decode cL_law 97 = .ok (.iadd, 1) := by decide +kernel
theorem dL_law_98 : decode cL_law 98 = .ok (.iaload, 1) := by decide +kernel
theorem dL_law_99 : decode cL_law 99 = .ok (.aload_n 0, 1) := by decide +kernel
theorem dL_law_100 : decode cL_law 100 = .ok (.iload_n 3, 1) := by decide +kernel
theorem dL_law_101 : decode cL_law 101 = .ok (.iconst 3, 1) := by decide +kernel
theorem dL_law_102 : decode cL_law 102 = .ok (.iadd, 1) := by decide +kernel
theorem dL_law_103 : decode cL_law 103 = .ok (.iaload, 1) := by decide +kernel
theorem dL_law_104 : decode cL_law 104 = .ok (.aload_n 0, 1) := by decide +kernel
theorem dL_law_105 : decode cL_law 105 = .ok (.iload_n 3, 1) := by decide +kernel
theorem dL_law_106 : decode cL_law 106 = .ok (.iconst 4, 1) := by decide +kernel
theorem dL_law_107 : decode cL_law 107 = .ok (.iadd, 1) := by decide +kernel
theorem dL_law_108 : decode cL_law 108 = .ok (.iaload, 1) := by decide +kernel
theorem dL_law_109 : decode cL_law 109 = .ok (.invokevirtual 13, 3) := by decide +kernel
theorem dL_law_112 : decode cL_law 112 = .ok (.aload_n 2, 1) := by decide +kernel
theorem dL_law_113 : decode cL_law 113 = .ok (.aload_n 0, 1) := by decide +kernel
theorem dL_law_114 : decode cL_law 114 = .ok (.iload_n 3, 1) := by decide +kernel
theorem dL_law_115 : decode cL_law 115 = .ok (.iconst 1, 1) := by decide +kernel
theorem dL_law_116 : decode cL_law 116 = .ok (.iadd, 1) := by decide +kernel
theorem dL_law_117 : decode cL_law 117 = .ok (.iaload, 1) := by decide +kernel
theorem dL_law_118 : decode cL_law 118 = .ok (.aload_n 0, 1) := by decide +kernel
theorem dL_law_119 : decode cL_law 119 = .ok (.iload_n 3, 1) := by decide +kernel
theorem dL_law_120 : decode cL_law 120 = .ok (.iconst 2, 1) := by decide +kernel
theorem dL_law_121 : decode cL_law 121 = .ok (.iadd, 1) := by decide +kernel
theorem dL_law_122 : decode cL_law 122 = .ok (.iaload, 1) := by decide +kernel
theorem dL_law_123 : decode cL_law 123 = .ok (.aload_n 0, 1) := by decide +kernel
theorem dL_law_124 : decode cL_law 124 = .ok (.iload_n 3, 1) := by decide +kernel
theorem dL_law_125 : decode cL_law 125 = .ok (.iconst 3, 1) := by decide +kernel
theorem dL_law_126 : decode cL_law 126 = .ok (.iadd, 1) := by decide +kernel
theorem dL_law_127 : decode cL_law 127 = .ok (.iaload, 1) := by decide +kernel
theorem dL_law_128 : decode cL_law 128 = .ok (.aload_n 0, 1) := by decide +kernel
theorem dL_law_129 : decode cL_law 129 = .ok (.iload_n 3, 1) := by decide +kernel
theorem dL_law_130 : decode cL_law 130 = .ok (.iconst 4, 1) := by decide +kernel
theorem dL_law_131 : decode cL_law 131 = .ok (.iadd, 1) := by decide +kernel
theorem dL_law_132 : decode cL_law 132 = .ok (.iaload, 1) := by decide +kernel
theorem dL_law_133 : decode cL_law 133 = .ok (.invokevirtual 17, 3) := by decide +kernel
theorem dL_law_136 : decode cL_law 136 = .ok (.if_icmp .eq 192, 3) := by decide +kernel
theorem dL_law_139 : decode cL_law 139 = .ok (.iconst 0, 1) := by decide +kernel
theorem dL_law_140 : decode cL_law 140 = .ok (.ireturn, 1) := by decide +kernel
theorem dL_law_141 : decode cL_law 141 = .ok (.aload_n 1, 1) := by decide +kernel
theorem dL_law_142 : decode cL_law 142 = .ok (.invokevirtual 18, 3) := by decide +kernel
theorem dL_law_145 : decode cL_law 145 = .ok (.aload_n 2, 1) := by decide +kernel
theorem dL_law_146 : decode cL_law 146 = .ok (.invokevirtual 22, 3) := by decide +kernel
theorem dL_law_149 : decode cL_law 149 = .ok (.if_icmp .eq 179, 3) := by decide +kernel
theorem dL_law_152 : decode cL_law 152 = .ok (.iconst 0, 1) := by decide +kernel
theorem dL_law_153 : decode cL_law 153 = .ok (.ireturn, 1) := by decide +kernel
theorem dL_law_154 : decode cL_law 154 = .ok (.aload_n 1, 1) := by decide +kernel
theorem dL_law_155 : decode cL_law 155 = .ok (.invokevirtual 23, 3) := by decide +kernel
theorem dL_law_158 : decode cL_law 158 = .ok (.aload_n 2, 1) := by decide +kernel
theorem dL_law_159 : decode cL_law 159 = .ok (.invokevirtual 26, 3) := by decide +kernel
theorem dL_law_162 : decode cL_law 162 = .ok (.if_icmp .eq 166, 3) := by decide +kernel
theorem dL_law_165 : decode cL_law 165 = .ok (.iconst 0, 1) := by decide +kernel
theorem dL_law_166 : decode cL_law 166 = .ok (.ireturn, 1) := by decide +kernel
theorem dL_law_167 : decode cL_law 167 = .ok (.aload_n 1, 1) := by decide +kernel
theorem dL_law_168 : decode cL_law 168 = .ok (.aload_n 0, 1) := by decide +kernel
theorem dL_law_169 : decode cL_law 169 = .ok (.iload_n 3, 1) := by decide +kernel
theorem dL_law_170 : decode cL_law 170 = .ok (.iconst 1, 1) := by decide +kernel
theorem dL_law_171 : decode cL_law 171 = .ok (.iadd, 1) := by decide +kernel
theorem dL_law_172 : decode cL_law 172 = .ok (.iaload, 1) := by decide +kernel
theorem dL_law_173 : decode cL_law 173 = .ok (.invokevirtual 27, 3) := by decide +kernel
theorem dL_law_176 : decode cL_law 176 = .ok (.aload_n 2, 1) := by decide +kernel
theorem dL_law_177 : decode cL_law 177 = .ok (.aload_n 0, 1) := by decide +kernel
theorem dL_law_178 : decode cL_law 178 = .ok (.iload_n 3, 1) := by decide +kernel
theorem dL_law_179 : decode cL_law 179 = .ok (.iconst 1, 1) := by decide +kernel
theorem dL_law_180 : decode cL_law 180 = .ok (.iadd, 1) := by decide +kernel
theorem dL_law_181 : decode cL_law 181 = .ok (.iaload, 1) := by decide +kernel
theorem dL_law_182 : decode cL_law 182 = .ok (.invokevirtual 31, 3) := by decide +kernel
theorem dL_law_185 : decode cL_law 185 = .ok (.if_icmp .eq 143, 3) := by decide +kernel
theorem dL_law_188 : decode cL_law 188 = .ok (.iconst 0, 1) := by decide +kernel
theorem dL_law_189 : decode cL_law 189 = .ok (.ireturn, 1) := by decide +kernel
theorem dL_law_190 : decode cL_law 190 = .ok (.aload_n 1, 1) := by decide +kernel
theorem dL_law_191 : decode cL_law 191 = .ok (.invokevirtual 32, 3) := by decide +kernel
theorem dL_law_194 : decode cL_law 194 = .ok (.aload_n 2, 1) := by decide +kernel
theorem dL_law_195 : decode cL_law 195 = .ok (.invokevirtual 35, 3) := by decide +kernel
theorem dL_law_198 : decode cL_law 198 = .ok (.if_icmp .eq 130, 3) := by decide +kernel
theorem dL_law_201 : decode cL_law 201 = .ok (.iconst 0, 1) := by decide +kernel
theorem dL_law_202 : decode cL_law 202 = .ok (.ireturn, 1) := by decide +kernel
theorem dL_law_203 : decode cL_law 203 = .ok (.aload_n 1, 1) := by decide +kernel
theorem dL_law_204 : decode cL_law 204 = .ok (.invokevirtual 36, 3) := by decide +kernel
theorem dL_law_207 : decode cL_law 207 = .ok (.aload_n 2, 1) := by decide +kernel
theorem dL_law_208 : decode cL_law 208 = .ok (.invokevirtual 39, 3) := by decide +kernel
theorem dL_law_211 : decode cL_law 211 = .ok (.if_icmp .eq 117, 3) := by decide +kernel
theorem dL_law_214 : decode cL_law 214 = .ok (.iconst 0, 1) := by decide +kernel
theorem dL_law_215 : decode cL_law 215 = .ok (.ireturn, 1) := by decide +kernel
theorem dL_law_216 : decode cL_law 216 = .ok (.aload_n 1, 1) := by decide +kernel
theorem dL_law_217 : decode cL_law 217 = .ok (.aload_n 0, 1) := by decide +kernel
theorem dL_law_218 : decode cL_law 218 = .ok (.iload_n 3, 1) := by decide +kernel
theorem dL_law_219 : decode cL_law 219 = .ok (.iconst 1, 1) := by decide +kernel
theorem dL_law_220 : decode cL_law 220 = .ok (.iadd, 1) := by decide +kernel
theorem dL_law_221 : decode cL_law 221 = .ok (.iaload, 1) := by decide +kernel
theorem dL_law_222 : decode cL_law 222 = .ok (.invokevirtual 40, 3) := by decide +kernel
theorem dL_law_225 : decode cL_law 225 = .ok (.aload_n 2, 1) := by decide +kernel
theorem dL_law_226 : decode cL_law 226 = .ok (.aload_n 0, 1) := by decide +kernel
theorem dL_law_227 : decode cL_law 227 = .ok (.iload_n 3, 1) := by decide +kernel
theorem dL_law_228 : decode cL_law 228 = .ok (.iconst 1, 1) := by decide +kernel
theorem dL_law_229 : decode cL_law 229 = .ok (.iadd, 1) := by decide +kernel
theorem dL_law_230 : decode cL_law 230 = .ok (.iaload, 1) := by decide +kernel
theorem dL_law_231 : decode cL_law 231 = .ok (.invokevirtual 43, 3) := by decide +kernel
theorem dL_law_234 : decode cL_law 234 = .ok (.if_icmp .eq 94, 3) := by decide +kernel
theorem dL_law_237 : decode cL_law 237 = .ok (.iconst 0, 1) := by decide +kernel
theorem dL_law_238 : decode cL_law 238 = .ok (.ireturn, 1) := by decide +kernel
theorem dL_law_239 : decode cL_law 239 = .ok (.aload_n 1, 1) := by decide +kernel
theorem dL_law_240 : decode cL_law 240 = .ok (.aload_n 0, 1) := by decide +kernel
theorem dL_law_241 : decode cL_law 241 = .ok (.iload_n 3, 1) := by decide +kernel
theorem dL_law_242 : decode cL_law 242 = .ok (.iconst 1, 1) := by decide +kernel
theorem dL_law_243 : decode cL_law 243 = .ok (.iadd, 1) := by decide +kernel
theorem dL_law_244 : decode cL_law 244 = .ok (.iaload, 1) := by decide +kernel
theorem dL_law_245 : decode cL_law 245 = .ok (.aload_n 0, 1) := by decide +kernel
theorem dL_law_246 : decode cL_law 246 = .ok (.iload_n 3, 1) := by decide +kernel
theorem dL_law_247 : decode cL_law 247 = .ok (.iconst 2, 1) := by decide +kernel
theorem dL_law_248 : decode cL_law 248 = .ok (.iadd, 1) := by decide +kernel
theorem dL_law_249 : decode cL_law 249 = .ok (.iaload, 1) := by decide +kernel
theorem dL_law_250 : decode cL_law 250 = .ok (.invokevirtual 44, 3) := by decide +kernel
theorem dL_law_253 : decode cL_law 253 = .ok (.aload_n 2, 1) := by decide +kernel
theorem dL_law_254 : decode cL_law 254 = .ok (.aload_n 0, 1) := by decide +kernel
theorem dL_law_255 : decode cL_law 255 = .ok (.iload_n 3, 1) := by decide +kernel
theorem dL_law_256 : decode cL_law 256 = .ok (.iconst 1, 1) := by decide +kernel
theorem dL_law_257 : decode cL_law 257 = .ok (.iadd, 1) := by decide +kernel
theorem dL_law_258 : decode cL_law 258 = .ok (.iaload, 1) := by decide +kernel
theorem dL_law_259 : decode cL_law 259 = .ok (.aload_n 0, 1) := by decide +kernel
theorem dL_law_260 : decode cL_law 260 = .ok (.iload_n 3, 1) := by decide +kernel
theorem dL_law_261 : decode cL_law 261 = .ok (.iconst 2, 1) := by decide +kernel
theorem dL_law_262 : decode cL_law 262 = .ok (.iadd, 1) := by decide +kernel
theorem dL_law_263 : decode cL_law 263 = .ok (.iaload, 1) := by decide +kernel
theorem dL_law_264 : decode cL_law 264 = .ok (.invokevirtual 48, 3) := by decide +kernel
theorem dL_law_267 : decode cL_law 267 = .ok (.if_icmp .eq 61, 3) := by decide +kernel
theorem dL_law_270 : decode cL_law 270 = .ok (.iconst 0, 1) := by decide +kernel
theorem dL_law_271 : decode cL_law 271 = .ok (.ireturn, 1) := by decide +kernel
theorem dL_law_272 : decode cL_law 272 = .ok (.aload_n 1, 1) := by decide +kernel
theorem dL_law_273 : decode cL_law 273 = .ok (.aload_n 0, 1) := by decide +kernel
theorem dL_law_274 : decode cL_law 274 = .ok (.iload_n 3, 1) := by decide +kernel
theorem dL_law_275 : decode cL_law 275 = .ok (.iconst 1, 1) := by decide +kernel
theorem dL_law_276 : decode cL_law 276 = .ok (.iadd, 1) := by decide +kernel
theorem dL_law_277 : decode cL_law 277 = .ok (.iaload, 1) := by decide +kernel
theorem dL_law_278 : decode cL_law 278 = .ok (.invokevirtual 49, 3) := by decide +kernel
theorem dL_law_281 : decode cL_law 281 = .ok (.aload_n 2, 1) := by decide +kernel
theorem dL_law_282 : decode cL_law 282 = .ok (.aload_n 0, 1) := by decide +kernel
theorem dL_law_283 : decode cL_law 283 = .ok (.iload_n 3, 1) := by decide +kernel
theorem dL_law_284 : decode cL_law 284 = .ok (.iconst 1, 1) := by decide +kernel
theorem dL_law_285 : decode cL_law 285 = .ok (.iadd, 1) := by decide +kernel
theorem dL_law_286 : decode cL_law 286 = .ok (.iaload, 1) := by decide +kernel
theorem dL_law_287 : decode cL_law 287 = .ok (.invokevirtual 52, 3) := by decide +kernel
theorem dL_law_290 : decode cL_law 290 = .ok (.if_icmp .eq 38, 3) := by decide +kernel
theorem dL_law_293 : decode cL_law 293 = .ok (.iconst 0, 1) := by decide +kernel
theorem dL_law_294 : decode cL_law 294 = .ok (.ireturn, 1) := by decide +kernel
theorem dL_law_295 : decode cL_law 295 = .ok (.aload_n 1, 1) := by decide +kernel
theorem dL_law_296 : decode cL_law 296 = .ok (.aload_n 0, 1) := by decide +kernel
theorem dL_law_297 : decode cL_law 297 = .ok (.iload_n 3, 1) := by decide +kernel
theorem dL_law_298 : decode cL_law 298 = .ok (.iconst 1, 1) := by decide +kernel
theorem dL_law_299 : decode cL_law 299 = .ok (.iadd, 1) := by decide +kernel
theorem dL_law_300 : decode cL_law 300 = .ok (.iaload, 1) := by decide +kernel
theorem dL_law_301 : decode cL_law 301 = .ok (.aload_n 0, 1) := by decide +kernel
theorem dL_law_302 : decode cL_law 302 = .ok (.iload_n 3, 1) := by decide +kernel
theorem dL_law_303 : decode cL_law 303 = .ok (.iconst 2, 1) := by decide +kernel
theorem dL_law_304 : decode cL_law 304 = .ok (.iadd, 1) := by decide +kernel
theorem dL_law_305 : decode cL_law 305 = .ok (.iaload, 1) := by decide +kernel
theorem dL_law_306 : decode cL_law 306 = .ok (.invokevirtual 53, 3) := by decide +kernel
theorem dL_law_309 : decode cL_law 309 = .ok (.aload_n 2, 1) := by decide +kernel
theorem dL_law_310 : decode cL_law 310 = .ok (.aload_n 0, 1) := by decide +kernel
theorem dL_law_311 : decode cL_law 311 = .ok (.iload_n 3, 1) := by decide +kernel
theorem dL_law_312 : decode cL_law 312 = .ok (.iconst 1, 1) := by decide +kernel
theorem dL_law_313 : decode cL_law 313 = .ok (.iadd, 1) := by decide +kernel
theorem dL_law_314 : decode cL_law 314 = .ok (.iaload, 1) := by decide +kernel
theorem dL_law_315 : decode cL_law 315 = .ok (.aload_n 0, 1) := by decide +kernel
theorem dL_law_316 : decode cL_law 316 = .ok (.iload_n 3, 1) := by decide +kernel
theorem dL_law_317 : decode cL_law 317 = .ok (.iconst 2, 1) := by decide +kernel
theorem dL_law_318 : decode cL_law 318 = .ok (.iadd, 1) := by decide +kernel
theorem dL_law_319 : decode cL_law 319 = .ok (.iaload, 1) := by decide +kernel
theorem dL_law_320 : decode cL_law 320 = .ok (.invokevirtual 56, 3) := by decide +kernel
theorem dL_law_323 : decode cL_law 323 = .ok (.if_icmp .eq 5, 3) := by decide +kernel
theorem dL_law_326 : decode cL_law 326 = .ok (.iconst 0, 1) := by decide +kernel
theorem dL_law_327 : decode cL_law 327 = .ok (.ireturn, 1) := by decide +kernel
theorem dL_law_328 : decode cL_law 328 = .ok (.iinc 3 5, 3) := by decide +kernel
theorem dL_law_331 : decode cL_law 331 = .ok (.goto (-313), 3) := by decide +kernel
theorem dL_law_334 : decode cL_law 334 = .ok (.iconst 1, 1) := by decide +kernel
theorem dL_law_335 : decode cL_law 335 = .ok (.ireturn, 1) := by decide +kernel
end
section
set_option maxRecDepth 100000
/-- a pure state of an object: its int fields by slot, its arrays by the slot of the field that holds them -/
abbrev SX : Type := (Nat → Int32) × (Nat → Nat → Int32)
def sI (σ : SX) (k : Nat) (v : Int32) : SX := (upd σ.1 k v, σ.2)
def sA (σ : SX) (k i : Nat) (v : Int32) : SX := (σ.1, va_up σ.2 k (upd (σ.2 k) i v))
abbrev vwCl : List vw_C := [(RX0, TX0, 20), (RX1, TX1, 9)]
def fX0 (h : Nat → Nat) (σ : SX) : List Value := [.int (σ.1 0), .ref (h 1), .ref (h 2), .ref (h 3), .ref (h 4), .ref (h 5), .ref (h 6), .int (σ.1 7), .int (σ.1 8), .ref (h 9), .ref (h 10), .ref (h 11), .ref (h 12), .ref (h 13), .ref (h 14), .ref (h 15), .ref (h 16), .ref (h 17), .int (σ.1 18), .int (σ.1 19)]
def wX0 (d : Nat → ClassId) (h : Nat → Nat) (σ : SX) : va_W := [(h 0, .inr (0, fX0 h σ)), (h 1, .inl (d 1, 20, .inl (σ.2 1))), (h 2, .inl (d 2, 20, .inl (σ.2 2))), (h 3, .inl (d 3, 20, .inl (σ.2 3))), (h 4, .inl (d 4, 20, .inl (σ.2 4))), (h 5, .inl (d 5, 6, .inl (σ.2 5))), (h 6, .inl (d 6, 16, .inl (σ.2 6))), (h 9, .inl (d 9, 20, .inl (σ.2 9))), (h 10, .inl (d 10, 20, .inl (σ.2 10))), (h 11, .inl (d 11, 20, .inl (σ.2 11))), (h 12, .inl (d 12, 6, .inl (σ.2 12))), (h 13, .inl (d 13, 20, .inl (σ.2 13))), (h 14, .inl (d 14, 20, .inl (σ.2 14))), (h 15, .inl (d 15, 20, .inl (σ.2 15))), (h 16, .inl (d 16, 20, .inl (σ.2 16))), (h 17, .inl (d 17, 20, .inl (σ.2 17)))]
def tX0 (d : Nat → ClassId) : List (ClassId × FieldType) := [(d 1, .byte), (d 2, .byte), (d 3, .int), (d 4, .int), (d 5, .int), (d 6, .int), (d 9, .byte), (d 10, .byte), (d 11, .byte), (d 12, .byte), (d 13, .byte), (d 14, .byte), (d 15, .int), (d 16, .byte), (d 17, .byte)]
/-- what holds all through a method of the class -/
def XE0 (D : va_G) (d : Nat → ClassId) (A : Nat → Prop) (p : Program) (s : State) (m : MethodId) (args : Array Value) (c : Code) (cc : ByteArray) (nL : Nat) : Prop :=
  p.tables.exec = Jvm.exec ∧ c.code = cc ∧ c.maxLocals = nL ∧ s.vm.findClass RX0 = some m.cls ∧ (∀ w ∈ lw_all, w.before args s = true) ∧ va_K D vwCl (tX0 d) s ∧ (∀ q : Nat, s.heap.size ≤ q → A q)
/-- the world now, with the pure state σ -/
def XW0 (D : va_G) (d : Nat → ClassId) (h : Nat → Nat) (A : Nat → Prop) (s : State) (H : Heap) (locs : List Loc) (σ : SX) : Prop := va_P D vwCl (wX0 d h σ) H ∧ va_D A (wX0 d h σ) ∧ va_S A s.heap H locs
def XB0 (D : va_G) (d : Nat → ClassId) (h : Nat → Nat) (A : Nat → Prop) (u : SX) (t : State) : Prop := va_P D vwCl (wX0 d h u) t.heap ∧ va_K D vwCl (tX0 d) t ∧ va_D A (wX0 d h u)
def XPc0 (D : va_G) (d : Nat → ClassId) (h : Nat → Nat) (As : List Value) (σ : SX) (sz : Nat) : Array Value → State → Prop := va_Pc (.ref (h 0) :: As) (fun U => U.heap.size = sz ∧ va_P D vwCl (wX0 d h σ) U.heap ∧ va_K D vwCl (tX0 d) U ∧ va_D (fun _ => True) (wX0 d h σ))
/-- the contracts: from the state σ, with the arguments As, the method returns, and post holds of its answer and the new state -/
def MXi0 (l : Launch) (y : MethodName) (cc : ByteArray) (nL : Nat) (ret : Option FieldType) (rm : Room) (D : va_G) (d : Nat → ClassId) (h : Nat → Nat) (As : List Value) (σ : SX) (post : Int32 → SX → Prop) : Prop :=
  ∀ sz : Nat, Met l y (ws_ y cc nL ret) rm (XPc0 D d h As σ sz) (va_Qi post (XB0 D d h (va_A (wX0 d h σ) sz)) (va_A (wX0 d h σ) sz)) 0 0 (va_A (wX0 d h σ) sz)
def MXv0 (l : Launch) (y : MethodName) (cc : ByteArray) (nL : Nat) (rm : Room) (D : va_G) (d : Nat → ClassId) (h : Nat → Nat) (As : List Value) (σ : SX) (post : SX → Prop) : Prop :=
  ∀ sz : Nat, Met l y (ws_ y cc nL none) rm (XPc0 D d h As σ sz) (va_Qv post (XB0 D d h (va_A (wX0 d h σ) sz)) (va_A (wX0 d h σ) sz)) 0 0 (va_A (wX0 d h σ) sz)
theorem MXi0.mk {l : Launch} {y : MethodName} {cc : ByteArray} {nL : Nat} {ret : Option FieldType} {rm : Room} {D : va_G} {d : Nat → ClassId} {h : Nat → Nat} {As : List Value} {σ : SX} {post : Int32 → SX → Prop} (hy : plainName y.cls = true) (hc : y.cls = RX0) (hn : (lg_sl (.ref (h 0) :: As)).length ≤ nL)
    (body : ∀ (p : Program) (e : Env) (s : State) (m : MethodId) (args : Array Value) (below : List Frame) (meth : Method) (c : Code) (A : Nat → Prop) (ls : Array Slot) (Q : State → Prop), Q = MQ below (va_Qi post (XB0 D d h A) A) args s 0 0 A → XE0 D d A p s m args c cc nL → meth.sig.returnType = ret → meth.locks = false → XW0 D d h A s s.heap [] σ → lv_has ls nL (lv_args 0 (.ref (h 0) :: As)) →
      W p l e rm s m args below meth c s.heap [] 0 0 Q (F0 m 0 ls [])) : MXi0 l y cc nL ret rm D d h As σ post := by
  intro sz
  refine Met.ofW (cc := cc) (maxL := nL) (ret := ret) hy rfl ?_
  intro p e s m args below meth c s₁ B hml hv
  obtain ⟨rfl, hsz, hP, hK, hD0⟩ := hv
  have hts := atoms_spec (ws := ws_ y cc nL ret) B.pre
  have hts : ∀ w ∈ lw_all, w.before _ s = true := fun w h => hts w (List.mem_cons_of_mem _ h)
  have hown : s.vm.findClass RX0 = some m.cls := by rw [← hc]; exact findClass_of_methodNamed B.named
  subst hsz
  have hl := lv_entry (.ref (h 0) :: As) (n := nL) hn
  rw [lg_entry_eq]
  exact body p e s m _ below meth c _ _ _ rfl ⟨B.exec, B.bytes, hml, hown, hts, hK, fun q hq => (Or.inr hq : va_A (wX0 d h σ) s.heap.size q)⟩ B.returns B.notSynchronized ⟨hP, hD0.self, va_S.rf⟩ hl
theorem MXv0.mk {l : Launch} {y : MethodName} {cc : ByteArray} {nL : Nat} {rm : Room} {D : va_G} {d : Nat → ClassId} {h : Nat → Nat} {As : List Value} {σ : SX} {post : SX → Prop} (hy : plainName y.cls = true) (hc : y.cls = RX0) (hn : (lg_sl (.ref (h 0) :: As)).length ≤ nL)
    (body : ∀ (p : Program) (e : Env) (s : State) (m : MethodId) (args : Array Value) (below : List Frame) (meth : Method) (c : Code) (A : Nat → Prop) (ls : Array Slot) (Q : State → Prop), Q = MQ below (va_Qv post (XB0 D d h A) A) args s 0 0 A → XE0 D d A p s m args c cc nL → meth.sig.returnType = none → meth.locks = false → XW0 D d h A s s.heap [] σ → lv_has ls nL (lv_args 0 (.ref (h 0) :: As)) →
      W p l e rm s m args below meth c s.heap [] 0 0 Q (F0 m 0 ls [])) : MXv0 l y cc nL rm D d h As σ post := by
  intro sz
  refine Met.ofW (cc := cc) (maxL := nL) (ret := none) hy rfl ?_
  intro p e s m args below meth c s₁ B hml hv
  obtain ⟨rfl, hsz, hP, hK, hD0⟩ := hv
  have hts := atoms_spec (ws := ws_ y cc nL none) B.pre
  have hts : ∀ w ∈ lw_all, w.before _ s = true := fun w h => hts w (List.mem_cons_of_mem _ h)
  have hown : s.vm.findClass RX0 = some m.cls := by rw [← hc]; exact findClass_of_methodNamed B.named
  subst hsz
  have hl := lv_entry (.ref (h 0) :: As) (n := nL) hn
  rw [lg_entry_eq]
  exact body p e s m _ below meth c _ _ _ rfl ⟨B.exec, B.bytes, hml, hown, hts, hK, fun q hq => (Or.inr hq : va_A (wX0 d h σ) s.heap.size q)⟩ B.returns B.notSynchronized ⟨hP, hD0.self, va_S.rf⟩ hl
section RX_0
variable {p : Program} {l : Launch} {e : Env} {R : Room} {s : State} {m : MethodId} {args : Array Value} {below : List Frame} {meth : Method} {c : Code} {H : Heap} {locs : List Loc} {cells slots : Nat} {Q : State → Prop}
variable {cc : ByteArray} {nL pc : Nat} {ls : Array Slot} {rest : List Value} {D : va_G} {d : Nat → ClassId} {h : Nat → Nat} {A : Nat → Prop} {σ : SX}
theorem xg0 (k idx : Nat) (v : Value) (E : XE0 D d A p s m args c cc nL) (hW : XW0 D d h A s H locs σ) (hk : k < 20) (hq : Cond.fieldLink RX0 idx (TX0 k).1 (TX0 k).2.1 (TX0 k).2.2.1 ∈ lw_all) (hv : (fX0 h σ)[k]? = some v) (hdg : decode cc pc = .ok (.getfield idx, 3))
    (kk : W p l e R s m args below meth c H locs cells slots Q (F0 m (pc + 3) ls (v :: rest))) : W p l e R s m args below meth c H locs cells slots Q (F0 m pc ls (.ref (h 0) :: rest)) := by
  obtain ⟨hx, hb, hml, hown, hts, hK, hA⟩ := E
  obtain ⟨hP, hD, hS⟩ := hW
  exact va_get (D := D) (ci := 0) (v := v) (C := RX0) (T := TX0) (N := 20) hx hb hts in_X0 hown hK hP 0 rfl rfl k hk (hts _ hq) (fun _ h9 => h9) hv hdg kk
theorem xp0 (k idx : Nat) (v : Int32) (E : XE0 D d A p s m args c cc nL) (hW : XW0 D d h A s H locs σ) (hk : k < 20) (hq : Cond.fieldLink RX0 idx (TX0 k).1 (TX0 k).2.1 (TX0 k).2.2.1 ∈ lw_all) (hfin : (TX0 k).2.2.2 = false) (hd : parseFieldDescriptor (TX0 k).2.2.1 = some .int) (hset : (wX0 d h σ).set 0 (h 0, .inr (0, (fX0 h σ).set k (.int v))) = wX0 d h (sI σ k v)) (hdg : decode cc pc = .ok (.putfield idx, 3))
    (kk : ∀ (H1 : Heap) (locs1 : List Loc), XW0 D d h A s H1 locs1 (sI σ k v) → W p l e R s m args below meth c H1 locs1 cells slots Q (F0 m (pc + 3) ls rest)) : W p l e R s m args below meth c H locs cells slots Q (F0 m pc ls (.int v :: .ref (h 0) :: rest)) := by
  obtain ⟨hx, hb, hml, hown, hts, hK, hA⟩ := E
  obtain ⟨hP, hD, hS⟩ := hW
  refine va_put (D := D) (ci := 0) (v := .int v) (ty := .int) (C := RX0) (T := TX0) (N := 20) hx hb hts in_X0 tyX0 tyX0_ok nmX0 hown hK hP hD hS 0 rfl rfl k hk (hts _ hq) (fun _ h9 => h9) hfin hd rfl rfl hk hdg (fun H1 locs1 hP hD hS => ?_)
  rw [hset] at hP hD
  exact kk H1 locs1 ⟨hP, hD, hS⟩
theorem xlb0 (q0 t0 k N : Nat) {i : Int32} {j : Nat} (E : XE0 D d A p s m args c cc nL) (hW : XW0 D d h A s H locs σ) (ha : (wX0 d h σ)[q0]? = some (h k, .inl (d k, N, .inl (σ.2 k)))) (ht : (tX0 d)[t0]? = some (d k, .byte)) (hN : N < 2 ^ 31) (hi : i = nI j) (hj : j < N) (hdg : decode cc pc = .ok (.baload, 1))
    (kk : W p l e R s m args below meth c H locs cells slots Q (F0 m (pc + 1) ls (.int (σ.2 k j) :: rest))) : W p l e R s m args below meth c H locs cells slots Q (F0 m pc ls (.int i :: .ref (h k) :: rest)) := by
  subst hi
  refine va_bald E.1 E.2.1 E.2.2.2.2.2.1 hW.1 q0 t0 ha ht (vp_in_nI hj hN) hdg ?_
  rw [nI_clamp (Nat.lt_trans hj hN)]
  exact kk
theorem xli0 (q0 t0 k N : Nat) {i : Int32} {j : Nat} (E : XE0 D d A p s m args c cc nL) (hW : XW0 D d h A s H locs σ) (ha : (wX0 d h σ)[q0]? = some (h k, .inl (d k, N, .inl (σ.2 k)))) (ht : (tX0 d)[t0]? = some (d k, .int)) (hN : N < 2 ^ 31) (hi : i = nI j) (hj : j < N) (hdg : decode cc pc = .ok (.iaload, 1))
    (kk : W p l e R s m args below meth c H locs cells slots Q (F0 m (pc + 1) ls (.int (σ.2 k j) :: rest))) : W p l e R s m args below meth c H locs cells slots Q (F0 m pc ls (.int i :: .ref (h k) :: rest)) := by
  subst hi
  refine va_iald E.1 E.2.1 E.2.2.2.2.2.1 hW.1 q0 t0 ha ht (vp_in_nI hj hN) hdg ?_
  rw [nI_clamp (Nat.lt_trans hj hN)]
  exact kk
theorem xlz0 (q0 t0 k N : Nat) {i : Int32} {j : Nat} (E : XE0 D d A p s m args c cc nL) (hW : XW0 D d h A s H locs σ) (ha : (wX0 d h σ)[q0]? = some (h k, .inl (d k, N, .inl (σ.2 k)))) (ht : (tX0 d)[t0]? = some (d k, .boolean)) (hN : N < 2 ^ 31) (hi : i = nI j) (hj : j < N) (hdg : decode cc pc = .ok (.baload, 1))
    (kk : W p l e R s m args below meth c H locs cells slots Q (F0 m (pc + 1) ls (.int (σ.2 k j) :: rest))) : W p l e R s m args below meth c H locs cells slots Q (F0 m pc ls (.int i :: .ref (h k) :: rest)) := by
  subst hi
  refine va_zald E.1 E.2.1 E.2.2.2.2.2.1 hW.1 q0 t0 ha ht (vp_in_nI hj hN) hdg ?_
  rw [nI_clamp (Nat.lt_trans hj hN)]
  exact kk
theorem xsi0 (q0 t0 k N : Nat) {i x : Int32} {j : Nat} (E : XE0 D d A p s m args c cc nL) (hW : XW0 D d h A s H locs σ) (ha : (wX0 d h σ)[q0]? = some (h k, .inl (d k, N, .inl (σ.2 k)))) (ht : (tX0 d)[t0]? = some (d k, .int)) (hN : N < 2 ^ 31) (hset : ∀ (j : Nat) (v : Int32), (wX0 d h σ).set q0 (h k, .inl (d k, N, .inl (upd (σ.2 k) j v))) = wX0 d h (sA σ k j v)) (hi : i = nI j) (hj : j < N) (hdg : decode cc pc = .ok (.iastore, 1))
    (kk : ∀ (H1 : Heap) (locs1 : List Loc), XW0 D d h A s H1 locs1 (sA σ k j x) → W p l e R s m args below meth c H1 locs1 cells slots Q (F0 m (pc + 1) ls rest)) : W p l e R s m args below meth c H locs cells slots Q (F0 m pc ls (.int x :: .int i :: .ref (h k) :: rest)) := by
  subst hi
  refine va_iast E.1 E.2.1 E.2.2.2.2.2.1 hW.1 hW.2.1 hW.2.2 q0 t0 ha ht (vp_in_nI hj hN) hdg (fun H1 locs1 hP hD hS => ?_)
  rw [nI_clamp (Nat.lt_trans hj hN), hset] at hP hD
  exact kk H1 locs1 ⟨hP, hD, hS⟩
theorem xsb0 (q0 t0 k N : Nat) {i x v : Int32} {j : Nat} (E : XE0 D d A p s m args c cc nL) (hW : XW0 D d h A s H locs σ) (ha : (wX0 d h σ)[q0]? = some (h k, .inl (d k, N, .inl (σ.2 k)))) (ht : (tX0 d)[t0]? = some (d k, .byte)) (hN : N < 2 ^ 31) (hset : ∀ (j : Nat) (v : Int32), (wX0 d h σ).set q0 (h k, .inl (d k, N, .inl (upd (σ.2 k) j v))) = wX0 d h (sA σ k j v)) (hi : i = nI j) (hj : j < N) (hv : vp_nar .byte x = v) (hdg : decode cc pc = .ok (.bastore, 1))
    (kk : ∀ (H1 : Heap) (locs1 : List Loc), XW0 D d h A s H1 locs1 (sA σ k j v) → W p l e R s m args below meth c H1 locs1 cells slots Q (F0 m (pc + 1) ls rest)) : W p l e R s m args below meth c H locs cells slots Q (F0 m pc ls (.int x :: .int i :: .ref (h k) :: rest)) := by
  subst hi
  refine va_bast E.1 E.2.1 E.2.2.2.2.2.1 hW.1 hW.2.1 hW.2.2 q0 t0 ha ht (vp_in_nI hj hN) hdg (fun H1 locs1 hP hD hS => ?_)
  rw [nI_clamp (Nat.lt_trans hj hN), hv, hset] at hP hD
  exact kk H1 locs1 ⟨hP, hD, hS⟩
theorem xsz0 (q0 t0 k N : Nat) {i x v : Int32} {j : Nat} (E : XE0 D d A p s m args c cc nL) (hW : XW0 D d h A s H locs σ) (ha : (wX0 d h σ)[q0]? = some (h k, .inl (d k, N, .inl (σ.2 k)))) (ht : (tX0 d)[t0]? = some (d k, .boolean)) (hN : N < 2 ^ 31) (hset : ∀ (j : Nat) (v : Int32), (wX0 d h σ).set q0 (h k, .inl (d k, N, .inl (upd (σ.2 k) j v))) = wX0 d h (sA σ k j v)) (hi : i = nI j) (hj : j < N) (hv : vp_nar .boolean x = v) (hdg : decode cc pc = .ok (.bastore, 1))
    (kk : ∀ (H1 : Heap) (locs1 : List Loc), XW0 D d h A s H1 locs1 (sA σ k j v) → W p l e R s m args below meth c H1 locs1 cells slots Q (F0 m (pc + 1) ls rest)) : W p l e R s m args below meth c H locs cells slots Q (F0 m pc ls (.int x :: .int i :: .ref (h k) :: rest)) := by
  subst hi
  refine va_zast E.1 E.2.1 E.2.2.2.2.2.1 hW.1 hW.2.1 hW.2.2 q0 t0 ha ht (vp_in_nI hj hN) hdg (fun H1 locs1 hP hD hS => ?_)
  rw [nI_clamp (Nat.lt_trans hj hN), hv, hset] at hP hD
  exact kk H1 locs1 ⟨hP, hD, hS⟩
/-- the ends of a method -/
theorem xiret0 {post : Int32 → SX → Prop} {v : Int32} (E : XE0 D d A p s m args c cc nL) (hW : XW0 D d h A s H locs σ) (hQ : Q = MQ below (va_Qi post (XB0 D d h A) A) args s 0 0 A) (hr : meth.sig.returnType = some .int) (hlk : meth.locks = false) (hdg : decode cc pc = .ok (.ireturn, 1)) (hp : post v σ) : W p l e R s m args below meth c H locs 0 0 Q (F0 m pc ls [.int v]) := by
  subst hQ
  exact W.iret (v := v) E.1 E.2.1 hr (fun t ht hWm => ⟨⟨v, σ, rfl, hp, by rw [ht]; exact hW.1, va_K.moved hWm.alike E.2.2.2.2.2.1, hW.2.1⟩, hW.2.2.F ht⟩) hW.2.2.2.2 hdg hlk
theorem xzret0 {post : Int32 → SX → Prop} {v : Int32} (E : XE0 D d A p s m args c cc nL) (hW : XW0 D d h A s H locs σ) (hQ : Q = MQ below (va_Qi post (XB0 D d h A) A) args s 0 0 A) (hr : meth.sig.returnType = some .boolean) (hlk : meth.locks = false) (hdg : decode cc pc = .ok (.ireturn, 1)) (hz : v = 0 ∨ v = 1) (hp : post v σ) : W p l e R s m args below meth c H locs 0 0 Q (F0 m pc ls [.int v]) := by
  subst hQ
  exact W.zret (v := v) E.1 E.2.1 hr (by rcases hz with rfl | rfl <;> rfl) (fun t ht hWm => ⟨⟨v, σ, rfl, hp, by rw [ht]; exact hW.1, va_K.moved hWm.alike E.2.2.2.2.2.1, hW.2.1⟩, hW.2.2.F ht⟩) hW.2.2.2.2 hdg hlk
theorem xvret0 {post : SX → Prop} (E : XE0 D d A p s m args c cc nL) (hW : XW0 D d h A s H locs σ) (hQ : Q = MQ below (va_Qv post (XB0 D d h A) A) args s 0 0 A) (hr : meth.sig.returnType = none) (hlk : meth.locks = false) (hdg : decode cc pc = .ok (.return_, 1)) (hp : post σ) : W p l e R s m args below meth c H locs 0 0 Q (F0 m pc ls []) := by
  subst hQ
  exact W.vret E.1 E.2.1 hr (fun t ht hWm => ⟨⟨σ, rfl, hp, by rw [ht]; exact hW.1, va_K.moved hWm.alike E.2.2.2.2.2.1, hW.2.1⟩, hW.2.2.F ht⟩) hW.2.2.2.2 hdg hlk
/-- calls of the object's own methods -/
theorem xci0 {y : MethodName} {bytes : ByteArray} {maxL idx n : Nat} {ret : Option FieldType} {rm : Room} {As : List Value} {post : Int32 → SX → Prop} {st : List Value} (hM : MXi0 l y bytes maxL ret rm D d h As σ post) (E : XE0 D d A p s m args c cc nL) (hW : XW0 D d h A s H locs σ) (hG : GoodIn lw_all (wsV RX0 idx RX0 y (ws_ y bytes maxL ret))) (hrm : rm.cells = 0 ∧ rm.slots = 0)
    (hd : y.cls = RX0 ∧ y.cls ≠ "java/lang/invoke/MethodHandle" ∧ y.cls ≠ "java/lang/invoke/VarHandle" ∧ (parseMethodDescriptor y.desc).map (fun d => d.parameters.length) = some n) (hR : rm.frames + 1 ≤ R.frames ∧ 8 + (maxL + 11) + rm.locals ≤ R.locals) (hn : As.length = n) (hsz : ls.size = nL) (hst : st = As.reverse ++ .ref (h 0) :: rest) (hrs : (rest.map fun v => v.category).sum ≤ 8) (hdg : decode cc pc = .ok (.invokevirtual idx, 3))
    (kk : ∀ (r : Int32) (u : SX) (H1 : Heap) (locs1 : List Loc), post r u → XW0 D d h A s H1 locs1 u → W p l e R s m args below meth c H1 locs1 0 0 Q (F0 m (pc + 3) ls (.int r :: rest))) : W p l e R s m args below meth c H locs 0 0 Q (F0 m pc ls st) := by
  subst hst
  obtain ⟨hx, hb, hml, hown, hts, hK, hA⟩ := E
  obtain ⟨hP, hD, hS⟩ := hW
  have hFc : ∀ q, va_A (wX0 d h σ) H.size q → A q := fun q hq => by
    rcases hq with ⟨k, e, hq⟩ | hq
    · exact hD.2 k _ hq
    · exact hA q (Nat.le_trans hS.1 hq)
  refine va_calli (va_runV (As := As) (rest := rest) ⟨hx, hb, hml, hown, hts⟩ (hM H.size) (cwV n hts hG rfl hrm.1 hrm.2 hd hR) ⟨fun a U g mk q => by obtain ⟨q0, q1, qP, qK, qD⟩ := q; exact ⟨q0, q1, qP, va_K.moved (u := U) (U := U.calling g mk a) (Vm.Alike.refl U.vm) qK, qD⟩, va_recv hK hP (ci := 0) (q0 := 0) rfl rfl, fun U hU hW => ⟨rfl, by rw [hU], by rw [hU]; exact hP, va_K.moved hW.alike hK, hD.weaken (fun _ _ _ _ => trivial)⟩⟩ rfl hn hsz rfl (lv_room hrs) hdg ⟨Nat.zero_le _, Nat.zero_le _⟩) hS (fun q _ h => hFc q h) hFc (fun r u t H1 locs1 ht hvm hp hB hz1 hk1 hS1 => ?_)
  obtain ⟨hP1, hK1, hD1⟩ := hB
  rw [ht] at hP1
  exact kk r u H1 locs1 hp ⟨hP1, hD1.weaken (fun _ q _ h => hFc q.1 h), hS1⟩
theorem xcv0 {y : MethodName} {bytes : ByteArray} {maxL idx n : Nat} {rm : Room} {As : List Value} {post : SX → Prop} {st : List Value} (hM : MXv0 l y bytes maxL rm D d h As σ post) (E : XE0 D d A p s m args c cc nL) (hW : XW0 D d h A s H locs σ) (hG : GoodIn lw_all (wsV RX0 idx RX0 y (ws_ y bytes maxL none))) (hrm : rm.cells = 0 ∧ rm.slots = 0)
    (hd : y.cls = RX0 ∧ y.cls ≠ "java/lang/invoke/MethodHandle" ∧ y.cls ≠ "java/lang/invoke/VarHandle" ∧ (parseMethodDescriptor y.desc).map (fun d => d.parameters.length) = some n) (hR : rm.frames + 1 ≤ R.frames ∧ 8 + (maxL + 11) + rm.locals ≤ R.locals) (hn : As.length = n) (hsz : ls.size = nL) (hst : st = As.reverse ++ .ref (h 0) :: rest) (hrs : (rest.map fun v => v.category).sum ≤ 8) (hdg : decode cc pc = .ok (.invokevirtual idx, 3))
    (kk : ∀ (u : SX) (H1 : Heap) (locs1 : List Loc), post u → XW0 D d h A s H1 locs1 u → W p l e R s m args below meth c H1 locs1 0 0 Q (F0 m (pc + 3) ls rest)) : W p l e R s m args below meth c H locs 0 0 Q (F0 m pc ls st) := by
  subst hst
  obtain ⟨hx, hb, hml, hown, hts, hK, hA⟩ := E
  obtain ⟨hP, hD, hS⟩ := hW
  have hFc : ∀ q, va_A (wX0 d h σ) H.size q → A q := fun q hq => by
    rcases hq with ⟨k, e, hq⟩ | hq
    · exact hD.2 k _ hq
    · exact hA q (Nat.le_trans hS.1 hq)
  refine va_callv (va_runV (As := As) (rest := rest) ⟨hx, hb, hml, hown, hts⟩ (hM H.size) (cwV n hts hG rfl hrm.1 hrm.2 hd hR) ⟨fun a U g mk q => by obtain ⟨q0, q1, qP, qK, qD⟩ := q; exact ⟨q0, q1, qP, va_K.moved (u := U) (U := U.calling g mk a) (Vm.Alike.refl U.vm) qK, qD⟩, va_recv hK hP (ci := 0) (q0 := 0) rfl rfl, fun U hU hW => ⟨rfl, by rw [hU], by rw [hU]; exact hP, va_K.moved hW.alike hK, hD.weaken (fun _ _ _ _ => trivial)⟩⟩ rfl hn hsz rfl (lv_room hrs) hdg ⟨Nat.zero_le _, Nat.zero_le _⟩) hS (fun q _ h => hFc q h) hFc (fun u t H1 locs1 ht hvm hp hB hz1 hk1 hS1 => ?_)
  obtain ⟨hP1, hK1, hD1⟩ := hB
  rw [ht] at hP1
  exact kk u H1 locs1 hp ⟨hP1, hD1.weaken (fun _ q _ h => hFc q.1 h), hS1⟩
end RX_0
section FX_0
variable {p : Program} {l : Launch} {e : Env} {R : Room} {s : State} {m : MethodId} {args : Array Value} {below : List Frame} {meth : Method} {c : Code} {H : Heap} {locs : List Loc} {cells slots : Nat} {Q : State → Prop}
variable {cc : ByteArray} {nL pc : Nat} {ls : Array Slot} {rest : List Value} {D : va_G} {d : Nat → ClassId} {h : Nat → Nat} {A : Nat → Prop} {σ : SX}
theorem xg0_length (E : XE0 D d A p s m args c cc nL) (hW : XW0 D d h A s H locs σ) (hdg : decode cc pc = .ok (.getfield 56, 3)) (kk : W p l e R s m args below meth c H locs cells slots Q (F0 m (pc + 3) ls (.int (σ.1 0) :: rest))) : W p l e R s m args below meth c H locs cells slots Q (F0 m pc ls (.ref (h 0) :: rest)) := xg0 0 56 (.int (σ.1 0)) E hW (by decide) q29 rfl hdg kk
theorem xp0_length {v : Int32} (E : XE0 D d A p s m args c cc nL) (hW : XW0 D d h A s H locs σ) (hdg : decode cc pc = .ok (.putfield 56, 3)) (kk : ∀ (H1 : Heap) (locs1 : List Loc), XW0 D d h A s H1 locs1 (sI σ 0 v) → W p l e R s m args below meth c H1 locs1 cells slots Q (F0 m (pc + 3) ls rest)) : W p l e R s m args below meth c H locs cells slots Q (F0 m pc ls (.int v :: .ref (h 0) :: rest)) := xp0 0 56 v E hW (by decide) q29 rfl (by decide +kernel) rfl hdg kk
theorem xg0_opcode (E : XE0 D d A p s m args c cc nL) (hW : XW0 D d h A s H locs σ) (hdg : decode cc pc = .ok (.getfield 7, 3)) (kk : W p l e R s m args below meth c H locs cells slots Q (F0 m (pc + 3) ls (.ref (h 1) :: rest))) : W p l e R s m args below meth c H locs cells slots Q (F0 m pc ls (.ref (h 0) :: rest)) := xg0 1 7 (.ref (h 1)) E hW (by decide) q30 rfl hdg kk
theorem xg0_fieldX (E : XE0 D d A p s m args c cc nL) (hW : XW0 D d h A s H locs σ) (hdg : decode cc pc = .ok (.getfield 13, 3)) (kk : W p l e R s m args below meth c H locs cells slots Q (F0 m (pc + 3) ls (.ref (h 2) :: rest))) : W p l e R s m args below meth c H locs cells slots Q (F0 m pc ls (.ref (h 0) :: rest)) := xg0 2 13 (.ref (h 2)) E hW (by decide) q31 rfl hdg kk
theorem xg0_fieldY (E : XE0 D d A p s m args c cc nL) (hW : XW0 D d h A s H locs σ) (hdg : decode cc pc = .ok (.getfield 16, 3)) (kk : W p l e R s m args below meth c H locs cells slots Q (F0 m (pc + 3) ls (.ref (h 3) :: rest))) : W p l e R s m args below meth c H locs cells slots Q (F0 m pc ls (.ref (h 0) :: rest)) := xg0 3 16 (.ref (h 3)) E hW (by decide) q32 rfl hdg kk
theorem xg0_fieldZ (E : XE0 D d A p s m args c cc nL) (hW : XW0 D d h A s H locs σ) (hdg : decode cc pc = .ok (.getfield 20, 3)) (kk : W p l e R s m args below meth c H locs cells slots Q (F0 m (pc + 3) ls (.ref (h 4) :: rest))) : W p l e R s m args below meth c H locs cells slots Q (F0 m pc ls (.ref (h 0) :: rest)) := xg0 4 20 (.ref (h 4)) E hW (by decide) q33 rfl hdg kk
theorem xg0_registers (E : XE0 D d A p s m args c cc nL) (hW : XW0 D d h A s H locs σ) (hdg : decode cc pc = .ok (.getfield 23, 3)) (kk : W p l e R s m args below meth c H locs cells slots Q (F0 m (pc + 3) ls (.ref (h 5) :: rest))) : W p l e R s m args below meth c H locs cells slots Q (F0 m pc ls (.ref (h 0) :: rest)) := xg0 5 23 (.ref (h 5)) E hW (by decide) q34 rfl hdg kk
theorem xg0_cells (E : XE0 D d A p s m args c cc nL) (hW : XW0 D d h A s H locs σ) (hdg : decode cc pc = .ok (.getfield 26, 3)) (kk : W p l e R s m args below meth c H locs cells slots Q (F0 m (pc + 3) ls (.ref (h 6) :: rest))) : W p l e R s m args below meth c H locs cells slots Q (F0 m pc ls (.ref (h 0) :: rest)) := xg0 6 26 (.ref (h 6)) E hW (by decide) q35 rfl hdg kk
theorem xg0_fedCount (E : XE0 D d A p s m args c cc nL) (hW : XW0 D d h A s H locs σ) (hdg : decode cc pc = .ok (.getfield 67, 3)) (kk : W p l e R s m args below meth c H locs cells slots Q (F0 m (pc + 3) ls (.int (σ.1 7) :: rest))) : W p l e R s m args below meth c H locs cells slots Q (F0 m pc ls (.ref (h 0) :: rest)) := xg0 7 67 (.int (σ.1 7)) E hW (by decide) q36 rfl hdg kk
theorem xp0_fedCount {v : Int32} (E : XE0 D d A p s m args c cc nL) (hW : XW0 D d h A s H locs σ) (hdg : decode cc pc = .ok (.putfield 67, 3)) (kk : ∀ (H1 : Heap) (locs1 : List Loc), XW0 D d h A s H1 locs1 (sI σ 7 v) → W p l e R s m args below meth c H1 locs1 cells slots Q (F0 m (pc + 3) ls rest)) : W p l e R s m args below meth c H locs cells slots Q (F0 m pc ls (.int v :: .ref (h 0) :: rest)) := xp0 7 67 v E hW (by decide) q36 rfl (by decide +kernel) rfl hdg kk
theorem xg0_writtenCells (E : XE0 D d A p s m args c cc nL) (hW : XW0 D d h A s H locs σ) (hdg : decode cc pc = .ok (.getfield 70, 3)) (kk : W p l e R s m args below meth c H locs cells slots Q (F0 m (pc + 3) ls (.int (σ.1 8) :: rest))) : W p l e R s m args below meth c H locs cells slots Q (F0 m pc ls (.ref (h 0) :: rest)) := xg0 8 70 (.int (σ.1 8)) E hW (by decide) q37 rfl hdg kk
theorem xp0_writtenCells {v : Int32} (E : XE0 D d A p s m args c cc nL) (hW : XW0 D d h A s H locs σ) (hdg : decode cc pc = .ok (.putfield 70, 3)) (kk : ∀ (H1 : Heap) (locs1 : List Loc), XW0 D d h A s H1 locs1 (sI σ 8 v) → W p l e R s m args below meth c H1 locs1 cells slots Q (F0 m (pc + 3) ls rest)) : W p l e R s m args below meth c H locs cells slots Q (F0 m pc ls (.int v :: .ref (h 0) :: rest)) := xp0 8 70 v E hW (by decide) q37 rfl (by decide +kernel) rfl hdg kk
theorem xg0_giverX (E : XE0 D d A p s m args c cc nL) (hW : XW0 D d h A s H locs σ) (hdg : decode cc pc = .ok (.getfield 29, 3)) (kk : W p l e R s m args below meth c H locs cells slots Q (F0 m (pc + 3) ls (.ref (h 9) :: rest))) : W p l e R s m args below meth c H locs cells slots Q (F0 m pc ls (.ref (h 0) :: rest)) := xg0 9 29 (.ref (h 9)) E hW (by decide) q38 rfl hdg kk
theorem xg0_giverY (E : XE0 D d A p s m args c cc nL) (hW : XW0 D d h A s H locs σ) (hdg : decode cc pc = .ok (.getfield 32, 3)) (kk : W p l e R s m args below meth c H locs cells slots Q (F0 m (pc + 3) ls (.ref (h 10) :: rest))) : W p l e R s m args below meth c H locs cells slots Q (F0 m pc ls (.ref (h 0) :: rest)) := xg0 10 32 (.ref (h 10)) E hW (by decide) q39 rfl hdg kk
theorem xg0_giverZ (E : XE0 D d A p s m args c cc nL) (hW : XW0 D d h A s H locs σ) (hdg : decode cc pc = .ok (.getfield 35, 3)) (kk : W p l e R s m args below meth c H locs cells slots Q (F0 m (pc + 3) ls (.ref (h 11) :: rest))) : W p l e R s m args below meth c H locs cells slots Q (F0 m pc ls (.ref (h 0) :: rest)) := xg0 11 35 (.ref (h 11)) E hW (by decide) q40 rfl hdg kk
theorem xg0_lastWriter (E : XE0 D d A p s m args c cc nL) (hW : XW0 D d h A s H locs σ) (hdg : decode cc pc = .ok (.getfield 38, 3)) (kk : W p l e R s m args below meth c H locs cells slots Q (F0 m (pc + 3) ls (.ref (h 12) :: rest))) : W p l e R s m args below meth c H locs cells slots Q (F0 m pc ls (.ref (h 0) :: rest)) := xg0 12 38 (.ref (h 12)) E hW (by decide) q41 rfl hdg kk
theorem xg0_progress (E : XE0 D d A p s m args c cc nL) (hW : XW0 D d h A s H locs σ) (hdg : decode cc pc = .ok (.getfield 41, 3)) (kk : W p l e R s m args below meth c H locs cells slots Q (F0 m (pc + 3) ls (.ref (h 13) :: rest))) : W p l e R s m args below meth c H locs cells slots Q (F0 m pc ls (.ref (h 0) :: rest)) := xg0 13 41 (.ref (h 13)) E hW (by decide) q42 rfl hdg kk
theorem xg0_ticks (E : XE0 D d A p s m args c cc nL) (hW : XW0 D d h A s H locs σ) (hdg : decode cc pc = .ok (.getfield 44, 3)) (kk : W p l e R s m args below meth c H locs cells slots Q (F0 m (pc + 3) ls (.ref (h 14) :: rest))) : W p l e R s m args below meth c H locs cells slots Q (F0 m pc ls (.ref (h 0) :: rest)) := xg0 14 44 (.ref (h 14)) E hW (by decide) q43 rfl hdg kk
theorem xg0_result (E : XE0 D d A p s m args c cc nL) (hW : XW0 D d h A s H locs σ) (hdg : decode cc pc = .ok (.getfield 47, 3)) (kk : W p l e R s m args below meth c H locs cells slots Q (F0 m (pc + 3) ls (.ref (h 15) :: rest))) : W p l e R s m args below meth c H locs cells slots Q (F0 m pc ls (.ref (h 0) :: rest)) := xg0 15 47 (.ref (h 15)) E hW (by decide) q44 rfl hdg kk
theorem xg0_cellOf (E : XE0 D d A p s m args c cc nL) (hW : XW0 D d h A s H locs σ) (hdg : decode cc pc = .ok (.getfield 50, 3)) (kk : W p l e R s m args below meth c H locs cells slots Q (F0 m (pc + 3) ls (.ref (h 16) :: rest))) : W p l e R s m args below meth c H locs cells slots Q (F0 m pc ls (.ref (h 0) :: rest)) := xg0 16 50 (.ref (h 16)) E hW (by decide) q45 rfl hdg kk
theorem xg0_source (E : XE0 D d A p s m args c cc nL) (hW : XW0 D d h A s H locs σ) (hdg : decode cc pc = .ok (.getfield 53, 3)) (kk : W p l e R s m args below meth c H locs cells slots Q (F0 m (pc + 3) ls (.ref (h 17) :: rest))) : W p l e R s m args below meth c H locs cells slots Q (F0 m pc ls (.ref (h 0) :: rest)) := xg0 17 53 (.ref (h 17)) E hW (by decide) q46 rfl hdg kk
theorem xg0_head (E : XE0 D d A p s m args c cc nL) (hW : XW0 D d h A s H locs σ) (hdg : decode cc pc = .ok (.getfield 80, 3)) (kk : W p l e R s m args below meth c H locs cells slots Q (F0 m (pc + 3) ls (.int (σ.1 18) :: rest))) : W p l e R s m args below meth c H locs cells slots Q (F0 m pc ls (.ref (h 0) :: rest)) := xg0 18 80 (.int (σ.1 18)) E hW (by decide) q47 rfl hdg kk
theorem xp0_head {v : Int32} (E : XE0 D d A p s m args c cc nL) (hW : XW0 D d h A s H locs σ) (hdg : decode cc pc = .ok (.putfield 80, 3)) (kk : ∀ (H1 : Heap) (locs1 : List Loc), XW0 D d h A s H1 locs1 (sI σ 18 v) → W p l e R s m args below meth c H1 locs1 cells slots Q (F0 m (pc + 3) ls rest)) : W p l e R s m args below meth c H locs cells slots Q (F0 m pc ls (.int v :: .ref (h 0) :: rest)) := xp0 18 80 v E hW (by decide) q47 rfl (by decide +kernel) rfl hdg kk
theorem xg0_chance (E : XE0 D d A p s m args c cc nL) (hW : XW0 D d h A s H locs σ) (hdg : decode cc pc = .ok (.getfield 64, 3)) (kk : W p l e R s m args below meth c H locs cells slots Q (F0 m (pc + 3) ls (.int (σ.1 19) :: rest))) : W p l e R s m args below meth c H locs cells slots Q (F0 m pc ls (.ref (h 0) :: rest)) := xg0 19 64 (.int (σ.1 19)) E hW (by decide) q48 rfl hdg kk
theorem xp0_chance {v : Int32} (E : XE0 D d A p s m args c cc nL) (hW : XW0 D d h A s H locs σ) (hdg : decode cc pc = .ok (.putfield 64, 3)) (kk : ∀ (H1 : Heap) (locs1 : List Loc), XW0 D d h A s H1 locs1 (sI σ 19 v) → W p l e R s m args below meth c H1 locs1 cells slots Q (F0 m (pc + 3) ls rest)) : W p l e R s m args below meth c H locs cells slots Q (F0 m pc ls (.int v :: .ref (h 0) :: rest)) := xp0 19 64 v E hW (by decide) q48 rfl (by decide +kernel) rfl hdg kk
theorem xl0_opcode {i : Int32} {j : Nat} (E : XE0 D d A p s m args c cc nL) (hW : XW0 D d h A s H locs σ) (hi : i = nI j) (hj : j < 20) (hdg : decode cc pc = .ok (.baload, 1)) (kk : W p l e R s m args below meth c H locs cells slots Q (F0 m (pc + 1) ls (.int (σ.2 1 j) :: rest))) : W p l e R s m args below meth c H locs cells slots Q (F0 m pc ls (.int i :: .ref (h 1) :: rest)) := xlb0 1 0 1 20 E hW rfl rfl (by decide) hi hj hdg kk
theorem xs0_opcode {i x v : Int32} {j : Nat} (E : XE0 D d A p s m args c cc nL) (hW : XW0 D d h A s H locs σ) (hi : i = nI j) (hj : j < 20) (hv : vp_nar .byte x = v) (hdg : decode cc pc = .ok (.bastore, 1)) (kk : ∀ (H1 : Heap) (locs1 : List Loc), XW0 D d h A s H1 locs1 (sA σ 1 j v) → W p l e R s m args below meth c H1 locs1 cells slots Q (F0 m (pc + 1) ls rest)) : W p l e R s m args below meth c H locs cells slots Q (F0 m pc ls (.int x :: .int i :: .ref (h 1) :: rest)) := xsb0 1 0 1 20 E hW rfl rfl (by decide) (fun _ _ => rfl) hi hj hv hdg kk
theorem xl0_fieldX {i : Int32} {j : Nat} (E : XE0 D d A p s m args c cc nL) (hW : XW0 D d h A s H locs σ) (hi : i = nI j) (hj : j < 20) (hdg : decode cc pc = .ok (.baload, 1)) (kk : W p l e R s m args below meth c H locs cells slots Q (F0 m (pc + 1) ls (.int (σ.2 2 j) :: rest))) : W p l e R s m args below meth c H locs cells slots Q (F0 m pc ls (.int i :: .ref (h 2) :: rest)) := xlb0 2 1 2 20 E hW rfl rfl (by decide) hi hj hdg kk
theorem xs0_fieldX {i x v : Int32} {j : Nat} (E : XE0 D d A p s m args c cc nL) (hW : XW0 D d h A s H locs σ) (hi : i = nI j) (hj : j < 20) (hv : vp_nar .byte x = v) (hdg : decode cc pc = .ok (.bastore, 1)) (kk : ∀ (H1 : Heap) (locs1 : List Loc), XW0 D d h A s H1 locs1 (sA σ 2 j v) → W p l e R s m args below meth c H1 locs1 cells slots Q (F0 m (pc + 1) ls rest)) : W p l e R s m args below meth c H locs cells slots Q (F0 m pc ls (.int x :: .int i :: .ref (h 2) :: rest)) := xsb0 2 1 2 20 E hW rfl rfl (by decide) (fun _ _ => rfl) hi hj hv hdg kk
theorem xl0_fieldY {i : Int32} {j : Nat} (E : XE0 D d A p s m args c cc nL) (hW : XW0 D d h A s H locs σ) (hi : i = nI j) (hj : j < 20) (hdg : decode cc pc = .ok (.iaload, 1)) (kk : W p l e R s m args below meth c H locs cells slots Q (F0 m (pc + 1) ls (.int (σ.2 3 j) :: rest))) : W p l e R s m args below meth c H locs cells slots Q (F0 m pc ls (.int i :: .ref (h 3) :: rest)) := xli0 3 2 3 20 E hW rfl rfl (by decide) hi hj hdg kk
theorem xs0_fieldY {i x : Int32} {j : Nat} (E : XE0 D d A p s m args c cc nL) (hW : XW0 D d h A s H locs σ) (hi : i = nI j) (hj : j < 20) (hdg : decode cc pc = .ok (.iastore, 1)) (kk : ∀ (H1 : Heap) (locs1 : List Loc), XW0 D d h A s H1 locs1 (sA σ 3 j x) → W p l e R s m args below meth c H1 locs1 cells slots Q (F0 m (pc + 1) ls rest)) : W p l e R s m args below meth c H locs cells slots Q (F0 m pc ls (.int x :: .int i :: .ref (h 3) :: rest)) := xsi0 3 2 3 20 E hW rfl rfl (by decide) (fun _ _ => rfl) hi hj hdg kk
theorem xl0_fieldZ {i : Int32} {j : Nat} (E : XE0 D d A p s m args c cc nL) (hW : XW0 D d h A s H locs σ) (hi : i = nI j) (hj : j < 20) (hdg : decode cc pc = .ok (.iaload, 1)) (kk : W p l e R s m args below meth c H locs cells slots Q (F0 m (pc + 1) ls (.int (σ.2 4 j) :: rest))) : W p l e R s m args below meth c H locs cells slots Q (F0 m pc ls (.int i :: .ref (h 4) :: rest)) := xli0 4 3 4 20 E hW rfl rfl (by decide) hi hj hdg kk
theorem xs0_fieldZ {i x : Int32} {j : Nat} (E : XE0 D d A p s m args c cc nL) (hW : XW0 D d h A s H locs σ) (hi : i = nI j) (hj : j < 20) (hdg : decode cc pc = .ok (.iastore, 1)) (kk : ∀ (H1 : Heap) (locs1 : List Loc), XW0 D d h A s H1 locs1 (sA σ 4 j x) → W p l e R s m args below meth c H1 locs1 cells slots Q (F0 m (pc + 1) ls rest)) : W p l e R s m args below meth c H locs cells slots Q (F0 m pc ls (.int x :: .int i :: .ref (h 4) :: rest)) := xsi0 4 3 4 20 E hW rfl rfl (by decide) (fun _ _ => rfl) hi hj hdg kk
theorem xl0_registers {i : Int32} {j : Nat} (E : XE0 D d A p s m args c cc nL) (hW : XW0 D d h A s H locs σ) (hi : i = nI j) (hj : j < 6) (hdg : decode cc pc = .ok (.iaload, 1)) (kk : W p l e R s m args below meth c H locs cells slots Q (F0 m (pc + 1) ls (.int (σ.2 5 j) :: rest))) : W p l e R s m args below meth c H locs cells slots Q (F0 m pc ls (.int i :: .ref (h 5) :: rest)) := xli0 5 4 5 6 E hW rfl rfl (by decide) hi hj hdg kk
theorem xs0_registers {i x : Int32} {j : Nat} (E : XE0 D d A p s m args c cc nL) (hW : XW0 D d h A s H locs σ) (hi : i = nI j) (hj : j < 6) (hdg : decode cc pc = .ok (.iastore, 1)) (kk : ∀ (H1 : Heap) (locs1 : List Loc), XW0 D d h A s H1 locs1 (sA σ 5 j x) → W p l e R s m args below meth c H1 locs1 cells slots Q (F0 m (pc + 1) ls rest)) : W p l e R s m args below meth c H locs cells slots Q (F0 m pc ls (.int x :: .int i :: .ref (h 5) :: rest)) := xsi0 5 4 5 6 E hW rfl rfl (by decide) (fun _ _ => rfl) hi hj hdg kk
theorem xl0_cells {i : Int32} {j : Nat} (E : XE0 D d A p s m args c cc nL) (hW : XW0 D d h A s H locs σ) (hi : i = nI j) (hj : j < 16) (hdg : decode cc pc = .ok (.iaload, 1)) (kk : W p l e R s m args below meth c H locs cells slots Q (F0 m (pc + 1) ls (.int (σ.2 6 j) :: rest))) : W p l e R s m args below meth c H locs cells slots Q (F0 m pc ls (.int i :: .ref (h 6) :: rest)) := xli0 6 5 6 16 E hW rfl rfl (by decide) hi hj hdg kk
theorem xs0_cells {i x : Int32} {j : Nat} (E : XE0 D d A p s m args c cc nL) (hW : XW0 D d h A s H locs σ) (hi : i = nI j) (hj : j < 16) (hdg : decode cc pc = .ok (.iastore, 1)) (kk : ∀ (H1 : Heap) (locs1 : List Loc), XW0 D d h A s H1 locs1 (sA σ 6 j x) → W p l e R s m args below meth c H1 locs1 cells slots Q (F0 m (pc + 1) ls rest)) : W p l e R s m args below meth c H locs cells slots Q (F0 m pc ls (.int x :: .int i :: .ref (h 6) :: rest)) := xsi0 6 5 6 16 E hW rfl rfl (by decide) (fun _ _ => rfl) hi hj hdg kk
theorem xl0_giverX {i : Int32} {j : Nat} (E : XE0 D d A p s m args c cc nL) (hW : XW0 D d h A s H locs σ) (hi : i = nI j) (hj : j < 20) (hdg : decode cc pc = .ok (.baload, 1)) (kk : W p l e R s m args below meth c H locs cells slots Q (F0 m (pc + 1) ls (.int (σ.2 9 j) :: rest))) : W p l e R s m args below meth c H locs cells slots Q (F0 m pc ls (.int i :: .ref (h 9) :: rest)) := xlb0 7 6 9 20 E hW rfl rfl (by decide) hi hj hdg kk
theorem xs0_giverX {i x v : Int32} {j : Nat} (E : XE0 D d A p s m args c cc nL) (hW : XW0 D d h A s H locs σ) (hi : i = nI j) (hj : j < 20) (hv : vp_nar .byte x = v) (hdg : decode cc pc = .ok (.bastore, 1)) (kk : ∀ (H1 : Heap) (locs1 : List Loc), XW0 D d h A s H1 locs1 (sA σ 9 j v) → W p l e R s m args below meth c H1 locs1 cells slots Q (F0 m (pc + 1) ls rest)) : W p l e R s m args below meth c H locs cells slots Q (F0 m pc ls (.int x :: .int i :: .ref (h 9) :: rest)) := xsb0 7 6 9 20 E hW rfl rfl (by decide) (fun _ _ => rfl) hi hj hv hdg kk
theorem xl0_giverY {i : Int32} {j : Nat} (E : XE0 D d A p s m args c cc nL) (hW : XW0 D d h A s H locs σ) (hi : i = nI j) (hj : j < 20) (hdg : decode cc pc = .ok (.baload, 1)) (kk : W p l e R s m args below meth c H locs cells slots Q (F0 m (pc + 1) ls (.int (σ.2 10 j) :: rest))) : W p l e R s m args below meth c H locs cells slots Q (F0 m pc ls (.int i :: .ref (h 10) :: rest)) := xlb0 8 7 10 20 E hW rfl rfl (by decide) hi hj hdg kk
theorem xs0_giverY {i x v : Int32} {j : Nat} (E : XE0 D d A p s m args c cc nL) (hW : XW0 D d h A s H locs σ) (hi : i = nI j) (hj : j < 20) (hv : vp_nar .byte x = v) (hdg : decode cc pc = .ok (.bastore, 1)) (kk : ∀ (H1 : Heap) (locs1 : List Loc), XW0 D d h A s H1 locs1 (sA σ 10 j v) → W p l e R s m args below meth c H1 locs1 cells slots Q (F0 m (pc + 1) ls rest)) : W p l e R s m args below meth c H locs cells slots Q (F0 m pc ls (.int x :: .int i :: .ref (h 10) :: rest)) := xsb0 8 7 10 20 E hW rfl rfl (by decide) (fun _ _ => rfl) hi hj hv hdg kk
theorem xl0_giverZ {i : Int32} {j : Nat} (E : XE0 D d A p s m args c cc nL) (hW : XW0 D d h A s H locs σ) (hi : i = nI j) (hj : j < 20) (hdg : decode cc pc = .ok (.baload, 1)) (kk : W p l e R s m args below meth c H locs cells slots Q (F0 m (pc + 1) ls (.int (σ.2 11 j) :: rest))) : W p l e R s m args below meth c H locs cells slots Q (F0 m pc ls (.int i :: .ref (h 11) :: rest)) := xlb0 9 8 11 20 E hW rfl rfl (by decide) hi hj hdg kk
theorem xs0_giverZ {i x v : Int32} {j : Nat} (E : XE0 D d A p s m args c cc nL) (hW : XW0 D d h A s H locs σ) (hi : i = nI j) (hj : j < 20) (hv : vp_nar .byte x = v) (hdg : decode cc pc = .ok (.bastore, 1)) (kk : ∀ (H1 : Heap) (locs1 : List Loc), XW0 D d h A s H1 locs1 (sA σ 11 j v) → W p l e R s m args below meth c H1 locs1 cells slots Q (F0 m (pc + 1) ls rest)) : W p l e R s m args below meth c H locs cells slots Q (F0 m pc ls (.int x :: .int i :: .ref (h 11) :: rest)) := xsb0 9 8 11 20 E hW rfl rfl (by decide) (fun _ _ => rfl) hi hj hv hdg kk
theorem xl0_lastWriter {i : Int32} {j : Nat} (E : XE0 D d A p s m args c cc nL) (hW : XW0 D d h A s H locs σ) (hi : i = nI j) (hj : j < 6) (hdg : decode cc pc = .ok (.baload, 1)) (kk : W p l e R s m args below meth c H locs cells slots Q (F0 m (pc + 1) ls (.int (σ.2 12 j) :: rest))) : W p l e R s m args below meth c H locs cells slots Q (F0 m pc ls (.int i :: .ref (h 12) :: rest)) := xlb0 10 9 12 6 E hW rfl rfl (by decide) hi hj hdg kk
theorem xs0_lastWriter {i x v : Int32} {j : Nat} (E : XE0 D d A p s m args c cc nL) (hW : XW0 D d h A s H locs σ) (hi : i = nI j) (hj : j < 6) (hv : vp_nar .byte x = v) (hdg : decode cc pc = .ok (.bastore, 1)) (kk : ∀ (H1 : Heap) (locs1 : List Loc), XW0 D d h A s H1 locs1 (sA σ 12 j v) → W p l e R s m args below meth c H1 locs1 cells slots Q (F0 m (pc + 1) ls rest)) : W p l e R s m args below meth c H locs cells slots Q (F0 m pc ls (.int x :: .int i :: .ref (h 12) :: rest)) := xsb0 10 9 12 6 E hW rfl rfl (by decide) (fun _ _ => rfl) hi hj hv hdg kk
theorem xl0_progress {i : Int32} {j : Nat} (E : XE0 D d A p s m args c cc nL) (hW : XW0 D d h A s H locs σ) (hi : i = nI j) (hj : j < 20) (hdg : decode cc pc = .ok (.baload, 1)) (kk : W p l e R s m args below meth c H locs cells slots Q (F0 m (pc + 1) ls (.int (σ.2 13 j) :: rest))) : W p l e R s m args below meth c H locs cells slots Q (F0 m pc ls (.int i :: .ref (h 13) :: rest)) := xlb0 11 10 13 20 E hW rfl rfl (by decide) hi hj hdg kk
theorem xs0_progress {i x v : Int32} {j : Nat} (E : XE0 D d A p s m args c cc nL) (hW : XW0 D d h A s H locs σ) (hi : i = nI j) (hj : j < 20) (hv : vp_nar .byte x = v) (hdg : decode cc pc = .ok (.bastore, 1)) (kk : ∀ (H1 : Heap) (locs1 : List Loc), XW0 D d h A s H1 locs1 (sA σ 13 j v) → W p l e R s m args below meth c H1 locs1 cells slots Q (F0 m (pc + 1) ls rest)) : W p l e R s m args below meth c H locs cells slots Q (F0 m pc ls (.int x :: .int i :: .ref (h 13) :: rest)) := xsb0 11 10 13 20 E hW rfl rfl (by decide) (fun _ _ => rfl) hi hj hv hdg kk
theorem xl0_ticks {i : Int32} {j : Nat} (E : XE0 D d A p s m args c cc nL) (hW : XW0 D d h A s H locs σ) (hi : i = nI j) (hj : j < 20) (hdg : decode cc pc = .ok (.baload, 1)) (kk : W p l e R s m args below meth c H locs cells slots Q (F0 m (pc + 1) ls (.int (σ.2 14 j) :: rest))) : W p l e R s m args below meth c H locs cells slots Q (F0 m pc ls (.int i :: .ref (h 14) :: rest)) := xlb0 12 11 14 20 E hW rfl rfl (by decide) hi hj hdg kk
theorem xs0_ticks {i x v : Int32} {j : Nat} (E : XE0 D d A p s m args c cc nL) (hW : XW0 D d h A s H locs σ) (hi : i = nI j) (hj : j < 20) (hv : vp_nar .byte x = v) (hdg : decode cc pc = .ok (.bastore, 1)) (kk : ∀ (H1 : Heap) (locs1 : List Loc), XW0 D d h A s H1 locs1 (sA σ 14 j v) → W p l e R s m args below meth c H1 locs1 cells slots Q (F0 m (pc + 1) ls rest)) : W p l e R s m args below meth c H locs cells slots Q (F0 m pc ls (.int x :: .int i :: .ref (h 14) :: rest)) := xsb0 12 11 14 20 E hW rfl rfl (by decide) (fun _ _ => rfl) hi hj hv hdg kk
theorem xl0_result {i : Int32} {j : Nat} (E : XE0 D d A p s m args c cc nL) (hW : XW0 D d h A s H locs σ) (hi : i = nI j) (hj : j < 20) (hdg : decode cc pc = .ok (.iaload, 1)) (kk : W p l e R s m args below meth c H locs cells slots Q (F0 m (pc + 1) ls (.int (σ.2 15 j) :: rest))) : W p l e R s m args below meth c H locs cells slots Q (F0 m pc ls (.int i :: .ref (h 15) :: rest)) := xli0 13 12 15 20 E hW rfl rfl (by decide) hi hj hdg kk
theorem xs0_result {i x : Int32} {j : Nat} (E : XE0 D d A p s m args c cc nL) (hW : XW0 D d h A s H locs σ) (hi : i = nI j) (hj : j < 20) (hdg : decode cc pc = .ok (.iastore, 1)) (kk : ∀ (H1 : Heap) (locs1 : List Loc), XW0 D d h A s H1 locs1 (sA σ 15 j x) → W p l e R s m args below meth c H1 locs1 cells slots Q (F0 m (pc + 1) ls rest)) : W p l e R s m args below meth c H locs cells slots Q (F0 m pc ls (.int x :: .int i :: .ref (h 15) :: rest)) := xsi0 13 12 15 20 E hW rfl rfl (by decide) (fun _ _ => rfl) hi hj hdg kk
theorem xl0_cellOf {i : Int32} {j : Nat} (E : XE0 D d A p s m args c cc nL) (hW : XW0 D d h A s H locs σ) (hi : i = nI j) (hj : j < 20) (hdg : decode cc pc = .ok (.baload, 1)) (kk : W p l e R s m args below meth c H locs cells slots Q (F0 m (pc + 1) ls (.int (σ.2 16 j) :: rest))) : W p l e R s m args below meth c H locs cells slots Q (F0 m pc ls (.int i :: .ref (h 16) :: rest)) := xlb0 14 13 16 20 E hW rfl rfl (by decide) hi hj hdg kk
theorem xs0_cellOf {i x v : Int32} {j : Nat} (E : XE0 D d A p s m args c cc nL) (hW : XW0 D d h A s H locs σ) (hi : i = nI j) (hj : j < 20) (hv : vp_nar .byte x = v) (hdg : decode cc pc = .ok (.bastore, 1)) (kk : ∀ (H1 : Heap) (locs1 : List Loc), XW0 D d h A s H1 locs1 (sA σ 16 j v) → W p l e R s m args below meth c H1 locs1 cells slots Q (F0 m (pc + 1) ls rest)) : W p l e R s m args below meth c H locs cells slots Q (F0 m pc ls (.int x :: .int i :: .ref (h 16) :: rest)) := xsb0 14 13 16 20 E hW rfl rfl (by decide) (fun _ _ => rfl) hi hj hv hdg kk
theorem xl0_source {i : Int32} {j : Nat} (E : XE0 D d A p s m args c cc nL) (hW : XW0 D d h A s H locs σ) (hi : i = nI j) (hj : j < 20) (hdg : decode cc pc = .ok (.baload, 1)) (kk : W p l e R s m args below meth c H locs cells slots Q (F0 m (pc + 1) ls (.int (σ.2 17 j) :: rest))) : W p l e R s m args below meth c H locs cells slots Q (F0 m pc ls (.int i :: .ref (h 17) :: rest)) := xlb0 15 14 17 20 E hW rfl rfl (by decide) hi hj hdg kk
theorem xs0_source {i x v : Int32} {j : Nat} (E : XE0 D d A p s m args c cc nL) (hW : XW0 D d h A s H locs σ) (hi : i = nI j) (hj : j < 20) (hv : vp_nar .byte x = v) (hdg : decode cc pc = .ok (.bastore, 1)) (kk : ∀ (H1 : Heap) (locs1 : List Loc), XW0 D d h A s H1 locs1 (sA σ 17 j v) → W p l e R s m args below meth c H1 locs1 cells slots Q (F0 m (pc + 1) ls rest)) : W p l e R s m args below meth c H locs cells slots Q (F0 m pc ls (.int x :: .int i :: .ref (h 17) :: rest)) := xsb0 15 14 17 20 E hW rfl rfl (by decide) (fun _ _ => rfl) hi hj hv hdg kk
end FX_0
def fX1 (h : Nat → Nat) (σ : SX) : List Value := [.int (σ.1 0), .ref (h 1), .ref (h 2), .ref (h 3), .ref (h 4), .ref (h 5), .ref (h 6), .int (σ.1 7), .ref (h 8)]
def wX1 (d : Nat → ClassId) (h : Nat → Nat) (σ : SX) : va_W := [(h 0, .inr (1, fX1 h σ)), (h 1, .inl (d 1, 20, .inl (σ.2 1))), (h 2, .inl (d 2, 20, .inl (σ.2 2))), (h 3, .inl (d 3, 20, .inl (σ.2 3))), (h 4, .inl (d 4, 20, .inl (σ.2 4))), (h 5, .inl (d 5, 6, .inl (σ.2 5))), (h 6, .inl (d 6, 16, .inl (σ.2 6))), (h 8, .inl (d 8, 16, .inl (σ.2 8)))]
def tX1 (d : Nat → ClassId) : List (ClassId × FieldType) := [(d 1, .int), (d 2, .int), (d 3, .int), (d 4, .int), (d 5, .int), (d 6, .int), (d 8, .boolean)]
/-- what holds all through a method of the class -/
def XE1 (D : va_G) (d : Nat → ClassId) (A : Nat → Prop) (p : Program) (s : State) (m : MethodId) (args : Array Value) (c : Code) (cc : ByteArray) (nL : Nat) : Prop :=
  p.tables.exec = Jvm.exec ∧ c.code = cc ∧ c.maxLocals = nL ∧ s.vm.findClass RX1 = some m.cls ∧ (∀ w ∈ lw_all, w.before args s = true) ∧ va_K D vwCl (tX1 d) s ∧ (∀ q : Nat, s.heap.size ≤ q → A q)
/-- the world now, with the pure state σ -/
def XW1 (D : va_G) (d : Nat → ClassId) (h : Nat → Nat) (A : Nat → Prop) (s : State) (H : Heap) (locs : List Loc) (σ : SX) : Prop := va_P D vwCl (wX1 d h σ) H ∧ va_D A (wX1 d h σ) ∧ va_S A s.heap H locs
def XB1 (D : va_G) (d : Nat → ClassId) (h : Nat → Nat) (A : Nat → Prop) (u : SX) (t : State) : Prop := va_P D vwCl (wX1 d h u) t.heap ∧ va_K D vwCl (tX1 d) t ∧ va_D A (wX1 d h u)
def XPc1 (D : va_G) (d : Nat → ClassId) (h : Nat → Nat) (As : List Value) (σ : SX) (sz : Nat) : Array Value → State → Prop := va_Pc (.ref (h 0) :: As) (fun U => U.heap.size = sz ∧ va_P D vwCl (wX1 d h σ) U.heap ∧ va_K D vwCl (tX1 d) U ∧ va_D (fun _ => True) (wX1 d h σ))
/-- the contracts: from the state σ, with the arguments As, the method returns, and post holds of its answer and the new state -/
def MXi1 (l : Launch) (y : MethodName) (cc : ByteArray) (nL : Nat) (ret : Option FieldType) (rm : Room) (D : va_G) (d : Nat → ClassId) (h : Nat → Nat) (As : List Value) (σ : SX) (post : Int32 → SX → Prop) : Prop :=
  ∀ sz : Nat, Met l y (ws_ y cc nL ret) rm (XPc1 D d h As σ sz) (va_Qi post (XB1 D d h (va_A (wX1 d h σ) sz)) (va_A (wX1 d h σ) sz)) 0 0 (va_A (wX1 d h σ) sz)
def MXv1 (l : Launch) (y : MethodName) (cc : ByteArray) (nL : Nat) (rm : Room) (D : va_G) (d : Nat → ClassId) (h : Nat → Nat) (As : List Value) (σ : SX) (post : SX → Prop) : Prop :=
  ∀ sz : Nat, Met l y (ws_ y cc nL none) rm (XPc1 D d h As σ sz) (va_Qv post (XB1 D d h (va_A (wX1 d h σ) sz)) (va_A (wX1 d h σ) sz)) 0 0 (va_A (wX1 d h σ) sz)
theorem MXi1.mk {l : Launch} {y : MethodName} {cc : ByteArray} {nL : Nat} {ret : Option FieldType} {rm : Room} {D : va_G} {d : Nat → ClassId} {h : Nat → Nat} {As : List Value} {σ : SX} {post : Int32 → SX → Prop} (hy : plainName y.cls = true) (hc : y.cls = RX1) (hn : (lg_sl (.ref (h 0) :: As)).length ≤ nL)
    (body : ∀ (p : Program) (e : Env) (s : State) (m : MethodId) (args : Array Value) (below : List Frame) (meth : Method) (c : Code) (A : Nat → Prop) (ls : Array Slot) (Q : State → Prop), Q = MQ below (va_Qi post (XB1 D d h A) A) args s 0 0 A → XE1 D d A p s m args c cc nL → meth.sig.returnType = ret → meth.locks = false → XW1 D d h A s s.heap [] σ → lv_has ls nL (lv_args 0 (.ref (h 0) :: As)) →
      W p l e rm s m args below meth c s.heap [] 0 0 Q (F0 m 0 ls [])) : MXi1 l y cc nL ret rm D d h As σ post := by
  intro sz
  refine Met.ofW (cc := cc) (maxL := nL) (ret := ret) hy rfl ?_
  intro p e s m args below meth c s₁ B hml hv
  obtain ⟨rfl, hsz, hP, hK, hD0⟩ := hv
  have hts := atoms_spec (ws := ws_ y cc nL ret) B.pre
  have hts : ∀ w ∈ lw_all, w.before _ s = true := fun w h => hts w (List.mem_cons_of_mem _ h)
  have hown : s.vm.findClass RX1 = some m.cls := by rw [← hc]; exact findClass_of_methodNamed B.named
  subst hsz
  have hl := lv_entry (.ref (h 0) :: As) (n := nL) hn
  rw [lg_entry_eq]
  exact body p e s m _ below meth c _ _ _ rfl ⟨B.exec, B.bytes, hml, hown, hts, hK, fun q hq => (Or.inr hq : va_A (wX1 d h σ) s.heap.size q)⟩ B.returns B.notSynchronized ⟨hP, hD0.self, va_S.rf⟩ hl
theorem MXv1.mk {l : Launch} {y : MethodName} {cc : ByteArray} {nL : Nat} {rm : Room} {D : va_G} {d : Nat → ClassId} {h : Nat → Nat} {As : List Value} {σ : SX} {post : SX → Prop} (hy : plainName y.cls = true) (hc : y.cls = RX1) (hn : (lg_sl (.ref (h 0) :: As)).length ≤ nL)
    (body : ∀ (p : Program) (e : Env) (s : State) (m : MethodId) (args : Array Value) (below : List Frame) (meth : Method) (c : Code) (A : Nat → Prop) (ls : Array Slot) (Q : State → Prop), Q = MQ below (va_Qv post (XB1 D d h A) A) args s 0 0 A → XE1 D d A p s m args c cc nL → meth.sig.returnType = none → meth.locks = false → XW1 D d h A s s.heap [] σ → lv_has ls nL (lv_args 0 (.ref (h 0) :: As)) →
      W p l e rm s m args below meth c s.heap [] 0 0 Q (F0 m 0 ls [])) : MXv1 l y cc nL rm D d h As σ post := by
  intro sz
  refine Met.ofW (cc := cc) (maxL := nL) (ret := none) hy rfl ?_
  intro p e s m args below meth c s₁ B hml hv
  obtain ⟨rfl, hsz, hP, hK, hD0⟩ := hv
  have hts := atoms_spec (ws := ws_ y cc nL none) B.pre
  have hts : ∀ w ∈ lw_all, w.before _ s = true := fun w h => hts w (List.mem_cons_of_mem _ h)
  have hown : s.vm.findClass RX1 = some m.cls := by rw [← hc]; exact findClass_of_methodNamed B.named
  subst hsz
  have hl := lv_entry (.ref (h 0) :: As) (n := nL) hn
  rw [lg_entry_eq]
  exact body p e s m _ below meth c _ _ _ rfl ⟨B.exec, B.bytes, hml, hown, hts, hK, fun q hq => (Or.inr hq : va_A (wX1 d h σ) s.heap.size q)⟩ B.returns B.notSynchronized ⟨hP, hD0.self, va_S.rf⟩ hl
section RX_1
variable {p : Program} {l : Launch} {e : Env} {R : Room} {s : State} {m : MethodId} {args : Array Value} {below : List Frame} {meth : Method} {c : Code} {H : Heap} {locs : List Loc} {cells slots : Nat} {Q : State → Prop}
variable {cc : ByteArray} {nL pc : Nat} {ls : Array Slot} {rest : List Value} {D : va_G} {d : Nat → ClassId} {h : Nat → Nat} {A : Nat → Prop} {σ : SX}
theorem xg1 (k idx : Nat) (v : Value) (E : XE1 D d A p s m args c cc nL) (hW : XW1 D d h A s H locs σ) (hk : k < 9) (hq : Cond.fieldLink RX1 idx (TX1 k).1 (TX1 k).2.1 (TX1 k).2.2.1 ∈ lw_all) (hv : (fX1 h σ)[k]? = some v) (hdg : decode cc pc = .ok (.getfield idx, 3))
    (kk : W p l e R s m args below meth c H locs cells slots Q (F0 m (pc + 3) ls (v :: rest))) : W p l e R s m args below meth c H locs cells slots Q (F0 m pc ls (.ref (h 0) :: rest)) := by
  obtain ⟨hx, hb, hml, hown, hts, hK, hA⟩ := E
  obtain ⟨hP, hD, hS⟩ := hW
  exact va_get (D := D) (ci := 1) (v := v) (C := RX1) (T := TX1) (N := 9) hx hb hts in_X1 hown hK hP 0 rfl rfl k hk (hts _ hq) (fun _ h9 => h9) hv hdg kk
theorem xp1 (k idx : Nat) (v : Int32) (E : XE1 D d A p s m args c cc nL) (hW : XW1 D d h A s H locs σ) (hk : k < 9) (hq : Cond.fieldLink RX1 idx (TX1 k).1 (TX1 k).2.1 (TX1 k).2.2.1 ∈ lw_all) (hfin : (TX1 k).2.2.2 = false) (hd : parseFieldDescriptor (TX1 k).2.2.1 = some .int) (hset : (wX1 d h σ).set 0 (h 0, .inr (1, (fX1 h σ).set k (.int v))) = wX1 d h (sI σ k v)) (hdg : decode cc pc = .ok (.putfield idx, 3))
    (kk : ∀ (H1 : Heap) (locs1 : List Loc), XW1 D d h A s H1 locs1 (sI σ k v) → W p l e R s m args below meth c H1 locs1 cells slots Q (F0 m (pc + 3) ls rest)) : W p l e R s m args below meth c H locs cells slots Q (F0 m pc ls (.int v :: .ref (h 0) :: rest)) := by
  obtain ⟨hx, hb, hml, hown, hts, hK, hA⟩ := E
  obtain ⟨hP, hD, hS⟩ := hW
  refine va_put (D := D) (ci := 1) (v := .int v) (ty := .int) (C := RX1) (T := TX1) (N := 9) hx hb hts in_X1 tyX1 tyX1_ok nmX1 hown hK hP hD hS 0 rfl rfl k hk (hts _ hq) (fun _ h9 => h9) hfin hd rfl rfl hk hdg (fun H1 locs1 hP hD hS => ?_)
  rw [hset] at hP hD
  exact kk H1 locs1 ⟨hP, hD, hS⟩
theorem xlb1 (q0 t0 k N : Nat) {i : Int32} {j : Nat} (E : XE1 D d A p s m args c cc nL) (hW : XW1 D d h A s H locs σ) (ha : (wX1 d h σ)[q0]? = some (h k, .inl (d k, N, .inl (σ.2 k)))) (ht : (tX1 d)[t0]? = some (d k, .byte)) (hN : N < 2 ^ 31) (hi : i = nI j) (hj : j < N) (hdg : decode cc pc = .ok (.baload, 1))
    (kk : W p l e R s m args below meth c H locs cells slots Q (F0 m (pc + 1) ls (.int (σ.2 k j) :: rest))) : W p l e R s m args below meth c H locs cells slots Q (F0 m pc ls (.int i :: .ref (h k) :: rest)) := by
  subst hi
  refine va_bald E.1 E.2.1 E.2.2.2.2.2.1 hW.1 q0 t0 ha ht (vp_in_nI hj hN) hdg ?_
  rw [nI_clamp (Nat.lt_trans hj hN)]
  exact kk
theorem xli1 (q0 t0 k N : Nat) {i : Int32} {j : Nat} (E : XE1 D d A p s m args c cc nL) (hW : XW1 D d h A s H locs σ) (ha : (wX1 d h σ)[q0]? = some (h k, .inl (d k, N, .inl (σ.2 k)))) (ht : (tX1 d)[t0]? = some (d k, .int)) (hN : N < 2 ^ 31) (hi : i = nI j) (hj : j < N) (hdg : decode cc pc = .ok (.iaload, 1))
    (kk : W p l e R s m args below meth c H locs cells slots Q (F0 m (pc + 1) ls (.int (σ.2 k j) :: rest))) : W p l e R s m args below meth c H locs cells slots Q (F0 m pc ls (.int i :: .ref (h k) :: rest)) := by
  subst hi
  refine va_iald E.1 E.2.1 E.2.2.2.2.2.1 hW.1 q0 t0 ha ht (vp_in_nI hj hN) hdg ?_
  rw [nI_clamp (Nat.lt_trans hj hN)]
  exact kk
theorem xlz1 (q0 t0 k N : Nat) {i : Int32} {j : Nat} (E : XE1 D d A p s m args c cc nL) (hW : XW1 D d h A s H locs σ) (ha : (wX1 d h σ)[q0]? = some (h k, .inl (d k, N, .inl (σ.2 k)))) (ht : (tX1 d)[t0]? = some (d k, .boolean)) (hN : N < 2 ^ 31) (hi : i = nI j) (hj : j < N) (hdg : decode cc pc = .ok (.baload, 1))
    (kk : W p l e R s m args below meth c H locs cells slots Q (F0 m (pc + 1) ls (.int (σ.2 k j) :: rest))) : W p l e R s m args below meth c H locs cells slots Q (F0 m pc ls (.int i :: .ref (h k) :: rest)) := by
  subst hi
  refine va_zald E.1 E.2.1 E.2.2.2.2.2.1 hW.1 q0 t0 ha ht (vp_in_nI hj hN) hdg ?_
  rw [nI_clamp (Nat.lt_trans hj hN)]
  exact kk
theorem xsi1 (q0 t0 k N : Nat) {i x : Int32} {j : Nat} (E : XE1 D d A p s m args c cc nL) (hW : XW1 D d h A s H locs σ) (ha : (wX1 d h σ)[q0]? = some (h k, .inl (d k, N, .inl (σ.2 k)))) (ht : (tX1 d)[t0]? = some (d k, .int)) (hN : N < 2 ^ 31) (hset : ∀ (j : Nat) (v : Int32), (wX1 d h σ).set q0 (h k, .inl (d k, N, .inl (upd (σ.2 k) j v))) = wX1 d h (sA σ k j v)) (hi : i = nI j) (hj : j < N) (hdg : decode cc pc = .ok (.iastore, 1))
    (kk : ∀ (H1 : Heap) (locs1 : List Loc), XW1 D d h A s H1 locs1 (sA σ k j x) → W p l e R s m args below meth c H1 locs1 cells slots Q (F0 m (pc + 1) ls rest)) : W p l e R s m args below meth c H locs cells slots Q (F0 m pc ls (.int x :: .int i :: .ref (h k) :: rest)) := by
  subst hi
  refine va_iast E.1 E.2.1 E.2.2.2.2.2.1 hW.1 hW.2.1 hW.2.2 q0 t0 ha ht (vp_in_nI hj hN) hdg (fun H1 locs1 hP hD hS => ?_)
  rw [nI_clamp (Nat.lt_trans hj hN), hset] at hP hD
  exact kk H1 locs1 ⟨hP, hD, hS⟩
theorem xsb1 (q0 t0 k N : Nat) {i x v : Int32} {j : Nat} (E : XE1 D d A p s m args c cc nL) (hW : XW1 D d h A s H locs σ) (ha : (wX1 d h σ)[q0]? = some (h k, .inl (d k, N, .inl (σ.2 k)))) (ht : (tX1 d)[t0]? = some (d k, .byte)) (hN : N < 2 ^ 31) (hset : ∀ (j : Nat) (v : Int32), (wX1 d h σ).set q0 (h k, .inl (d k, N, .inl (upd (σ.2 k) j v))) = wX1 d h (sA σ k j v)) (hi : i = nI j) (hj : j < N) (hv : vp_nar .byte x = v) (hdg : decode cc pc = .ok (.bastore, 1))
    (kk : ∀ (H1 : Heap) (locs1 : List Loc), XW1 D d h A s H1 locs1 (sA σ k j v) → W p l e R s m args below meth c H1 locs1 cells slots Q (F0 m (pc + 1) ls rest)) : W p l e R s m args below meth c H locs cells slots Q (F0 m pc ls (.int x :: .int i :: .ref (h k) :: rest)) := by
  subst hi
  refine va_bast E.1 E.2.1 E.2.2.2.2.2.1 hW.1 hW.2.1 hW.2.2 q0 t0 ha ht (vp_in_nI hj hN) hdg (fun H1 locs1 hP hD hS => ?_)
  rw [nI_clamp (Nat.lt_trans hj hN), hv, hset] at hP hD
  exact kk H1 locs1 ⟨hP, hD, hS⟩
theorem xsz1 (q0 t0 k N : Nat) {i x v : Int32} {j : Nat} (E : XE1 D d A p s m args c cc nL) (hW : XW1 D d h A s H locs σ) (ha : (wX1 d h σ)[q0]? = some (h k, .inl (d k, N, .inl (σ.2 k)))) (ht : (tX1 d)[t0]? = some (d k, .boolean)) (hN : N < 2 ^ 31) (hset : ∀ (j : Nat) (v : Int32), (wX1 d h σ).set q0 (h k, .inl (d k, N, .inl (upd (σ.2 k) j v))) = wX1 d h (sA σ k j v)) (hi : i = nI j) (hj : j < N) (hv : vp_nar .boolean x = v) (hdg : decode cc pc = .ok (.bastore, 1))
    (kk : ∀ (H1 : Heap) (locs1 : List Loc), XW1 D d h A s H1 locs1 (sA σ k j v) → W p l e R s m args below meth c H1 locs1 cells slots Q (F0 m (pc + 1) ls rest)) : W p l e R s m args below meth c H locs cells slots Q (F0 m pc ls (.int x :: .int i :: .ref (h k) :: rest)) := by
  subst hi
  refine va_zast E.1 E.2.1 E.2.2.2.2.2.1 hW.1 hW.2.1 hW.2.2 q0 t0 ha ht (vp_in_nI hj hN) hdg (fun H1 locs1 hP hD hS => ?_)
  rw [nI_clamp (Nat.lt_trans hj hN), hv, hset] at hP hD
  exact kk H1 locs1 ⟨hP, hD, hS⟩
/-- the ends of a method -/
theorem xiret1 {post : Int32 → SX → Prop} {v : Int32} (E : XE1 D d A p s m args c cc nL) (hW : XW1 D d h A s H locs σ) (hQ : Q = MQ below (va_Qi post (XB1 D d h A) A) args s 0 0 A) (hr : meth.sig.returnType = some .int) (hlk : meth.locks = false) (hdg : decode cc pc = .ok (.ireturn, 1)) (hp : post v σ) : W p l e R s m args below meth c H locs 0 0 Q (F0 m pc ls [.int v]) := by
  subst hQ
  exact W.iret (v := v) E.1 E.2.1 hr (fun t ht hWm => ⟨⟨v, σ, rfl, hp, by rw [ht]; exact hW.1, va_K.moved hWm.alike E.2.2.2.2.2.1, hW.2.1⟩, hW.2.2.F ht⟩) hW.2.2.2.2 hdg hlk
theorem xzret1 {post : Int32 → SX → Prop} {v : Int32} (E : XE1 D d A p s m args c cc nL) (hW : XW1 D d h A s H locs σ) (hQ : Q = MQ below (va_Qi post (XB1 D d h A) A) args s 0 0 A) (hr : meth.sig.returnType = some .boolean) (hlk : meth.locks = false) (hdg : decode cc pc = .ok (.ireturn, 1)) (hz : v = 0 ∨ v = 1) (hp : post v σ) : W p l e R s m args below meth c H locs 0 0 Q (F0 m pc ls [.int v]) := by
  subst hQ
  exact W.zret (v := v) E.1 E.2.1 hr (by rcases hz with rfl | rfl <;> rfl) (fun t ht hWm => ⟨⟨v, σ, rfl, hp, by rw [ht]; exact hW.1, va_K.moved hWm.alike E.2.2.2.2.2.1, hW.2.1⟩, hW.2.2.F ht⟩) hW.2.2.2.2 hdg hlk
theorem xvret1 {post : SX → Prop} (E : XE1 D d A p s m args c cc nL) (hW : XW1 D d h A s H locs σ) (hQ : Q = MQ below (va_Qv post (XB1 D d h A) A) args s 0 0 A) (hr : meth.sig.returnType = none) (hlk : meth.locks = false) (hdg : decode cc pc = .ok (.return_, 1)) (hp : post σ) : W p l e R s m args below meth c H locs 0 0 Q (F0 m pc ls []) := by
  subst hQ
  exact W.vret E.1 E.2.1 hr (fun t ht hWm => ⟨⟨σ, rfl, hp, by rw [ht]; exact hW.1, va_K.moved hWm.alike E.2.2.2.2.2.1, hW.2.1⟩, hW.2.2.F ht⟩) hW.2.2.2.2 hdg hlk
/-- calls of the object's own methods -/
theorem xci1 {y : MethodName} {bytes : ByteArray} {maxL idx n : Nat} {ret : Option FieldType} {rm : Room} {As : List Value} {post : Int32 → SX → Prop} {st : List Value} (hM : MXi1 l y bytes maxL ret rm D d h As σ post) (E : XE1 D d A p s m args c cc nL) (hW : XW1 D d h A s H locs σ) (hG : GoodIn lw_all (wsV RX1 idx RX1 y (ws_ y bytes maxL ret))) (hrm : rm.cells = 0 ∧ rm.slots = 0)
    (hd : y.cls = RX1 ∧ y.cls ≠ "java/lang/invoke/MethodHandle" ∧ y.cls ≠ "java/lang/invoke/VarHandle" ∧ (parseMethodDescriptor y.desc).map (fun d => d.parameters.length) = some n) (hR : rm.frames + 1 ≤ R.frames ∧ 8 + (maxL + 11) + rm.locals ≤ R.locals) (hn : As.length = n) (hsz : ls.size = nL) (hst : st = As.reverse ++ .ref (h 0) :: rest) (hrs : (rest.map fun v => v.category).sum ≤ 8) (hdg : decode cc pc = .ok (.invokevirtual idx, 3))
    (kk : ∀ (r : Int32) (u : SX) (H1 : Heap) (locs1 : List Loc), post r u → XW1 D d h A s H1 locs1 u → W p l e R s m args below meth c H1 locs1 0 0 Q (F0 m (pc + 3) ls (.int r :: rest))) : W p l e R s m args below meth c H locs 0 0 Q (F0 m pc ls st) := by
  subst hst
  obtain ⟨hx, hb, hml, hown, hts, hK, hA⟩ := E
  obtain ⟨hP, hD, hS⟩ := hW
  have hFc : ∀ q, va_A (wX1 d h σ) H.size q → A q := fun q hq => by
    rcases hq with ⟨k, e, hq⟩ | hq
    · exact hD.2 k _ hq
    · exact hA q (Nat.le_trans hS.1 hq)
  refine va_calli (va_runV (As := As) (rest := rest) ⟨hx, hb, hml, hown, hts⟩ (hM H.size) (cwV n hts hG rfl hrm.1 hrm.2 hd hR) ⟨fun a U g mk q => by obtain ⟨q0, q1, qP, qK, qD⟩ := q; exact ⟨q0, q1, qP, va_K.moved (u := U) (U := U.calling g mk a) (Vm.Alike.refl U.vm) qK, qD⟩, va_recv hK hP (ci := 1) (q0 := 0) rfl rfl, fun U hU hW => ⟨rfl, by rw [hU], by rw [hU]; exact hP, va_K.moved hW.alike hK, hD.weaken (fun _ _ _ _ => trivial)⟩⟩ rfl hn hsz rfl (lv_room hrs) hdg ⟨Nat.zero_le _, Nat.zero_le _⟩) hS (fun q _ h => hFc q h) hFc (fun r u t H1 locs1 ht hvm hp hB hz1 hk1 hS1 => ?_)
  obtain ⟨hP1, hK1, hD1⟩ := hB
  rw [ht] at hP1
  exact kk r u H1 locs1 hp ⟨hP1, hD1.weaken (fun _ q _ h => hFc q.1 h), hS1⟩
theorem xcv1 {y : MethodName} {bytes : ByteArray} {maxL idx n : Nat} {rm : Room} {As : List Value} {post : SX → Prop} {st : List Value} (hM : MXv1 l y bytes maxL rm D d h As σ post) (E : XE1 D d A p s m args c cc nL) (hW : XW1 D d h A s H locs σ) (hG : GoodIn lw_all (wsV RX1 idx RX1 y (ws_ y bytes maxL none))) (hrm : rm.cells = 0 ∧ rm.slots = 0)
    (hd : y.cls = RX1 ∧ y.cls ≠ "java/lang/invoke/MethodHandle" ∧ y.cls ≠ "java/lang/invoke/VarHandle" ∧ (parseMethodDescriptor y.desc).map (fun d => d.parameters.length) = some n) (hR : rm.frames + 1 ≤ R.frames ∧ 8 + (maxL + 11) + rm.locals ≤ R.locals) (hn : As.length = n) (hsz : ls.size = nL) (hst : st = As.reverse ++ .ref (h 0) :: rest) (hrs : (rest.map fun v => v.category).sum ≤ 8) (hdg : decode cc pc = .ok (.invokevirtual idx, 3))
    (kk : ∀ (u : SX) (H1 : Heap) (locs1 : List Loc), post u → XW1 D d h A s H1 locs1 u → W p l e R s m args below meth c H1 locs1 0 0 Q (F0 m (pc + 3) ls rest)) : W p l e R s m args below meth c H locs 0 0 Q (F0 m pc ls st) := by
  subst hst
  obtain ⟨hx, hb, hml, hown, hts, hK, hA⟩ := E
  obtain ⟨hP, hD, hS⟩ := hW
  have hFc : ∀ q, va_A (wX1 d h σ) H.size q → A q := fun q hq => by
    rcases hq with ⟨k, e, hq⟩ | hq
    · exact hD.2 k _ hq
    · exact hA q (Nat.le_trans hS.1 hq)
  refine va_callv (va_runV (As := As) (rest := rest) ⟨hx, hb, hml, hown, hts⟩ (hM H.size) (cwV n hts hG rfl hrm.1 hrm.2 hd hR) ⟨fun a U g mk q => by obtain ⟨q0, q1, qP, qK, qD⟩ := q; exact ⟨q0, q1, qP, va_K.moved (u := U) (U := U.calling g mk a) (Vm.Alike.refl U.vm) qK, qD⟩, va_recv hK hP (ci := 1) (q0 := 0) rfl rfl, fun U hU hW => ⟨rfl, by rw [hU], by rw [hU]; exact hP, va_K.moved hW.alike hK, hD.weaken (fun _ _ _ _ => trivial)⟩⟩ rfl hn hsz rfl (lv_room hrs) hdg ⟨Nat.zero_le _, Nat.zero_le _⟩) hS (fun q _ h => hFc q h) hFc (fun u t H1 locs1 ht hvm hp hB hz1 hk1 hS1 => ?_)
  obtain ⟨hP1, hK1, hD1⟩ := hB
  rw [ht] at hP1
  exact kk u H1 locs1 hp ⟨hP1, hD1.weaken (fun _ q _ h => hFc q.1 h), hS1⟩
end RX_1
section FX_1
variable {p : Program} {l : Launch} {e : Env} {R : Room} {s : State} {m : MethodId} {args : Array Value} {below : List Frame} {meth : Method} {c : Code} {H : Heap} {locs : List Loc} {cells slots : Nat} {Q : State → Prop}
variable {cc : ByteArray} {nL pc : Nat} {ls : Array Slot} {rest : List Value} {D : va_G} {d : Nat → ClassId} {h : Nat → Nat} {A : Nat → Prop} {σ : SX}
theorem xg1_n (E : XE1 D d A p s m args c cc nL) (hW : XW1 D d h A s H locs σ) (hdg : decode cc pc = .ok (.getfield 7, 3)) (kk : W p l e R s m args below meth c H locs cells slots Q (F0 m (pc + 3) ls (.int (σ.1 0) :: rest))) : W p l e R s m args below meth c H locs cells slots Q (F0 m pc ls (.ref (h 0) :: rest)) := xg1 0 7 (.int (σ.1 0)) E hW (by decide) q199 rfl hdg kk
theorem xp1_n {v : Int32} (E : XE1 D d A p s m args c cc nL) (hW : XW1 D d h A s H locs σ) (hdg : decode cc pc = .ok (.putfield 7, 3)) (kk : ∀ (H1 : Heap) (locs1 : List Loc), XW1 D d h A s H1 locs1 (sI σ 0 v) → W p l e R s m args below meth c H1 locs1 cells slots Q (F0 m (pc + 3) ls rest)) : W p l e R s m args below meth c H locs cells slots Q (F0 m pc ls (.int v :: .ref (h 0) :: rest)) := xp1 0 7 v E hW (by decide) q199 rfl (by decide +kernel) rfl hdg kk
theorem xg1_op (E : XE1 D d A p s m args c cc nL) (hW : XW1 D d h A s H locs σ) (hdg : decode cc pc = .ok (.getfield 13, 3)) (kk : W p l e R s m args below meth c H locs cells slots Q (F0 m (pc + 3) ls (.ref (h 1) :: rest))) : W p l e R s m args below meth c H locs cells slots Q (F0 m pc ls (.ref (h 0) :: rest)) := xg1 1 13 (.ref (h 1)) E hW (by decide) q200 rfl hdg kk
theorem xg1_x (E : XE1 D d A p s m args c cc nL) (hW : XW1 D d h A s H locs σ) (hdg : decode cc pc = .ok (.getfield 17, 3)) (kk : W p l e R s m args below meth c H locs cells slots Q (F0 m (pc + 3) ls (.ref (h 2) :: rest))) : W p l e R s m args below meth c H locs cells slots Q (F0 m pc ls (.ref (h 0) :: rest)) := xg1 2 17 (.ref (h 2)) E hW (by decide) q201 rfl hdg kk
theorem xg1_y (E : XE1 D d A p s m args c cc nL) (hW : XW1 D d h A s H locs σ) (hdg : decode cc pc = .ok (.getfield 20, 3)) (kk : W p l e R s m args below meth c H locs cells slots Q (F0 m (pc + 3) ls (.ref (h 3) :: rest))) : W p l e R s m args below meth c H locs cells slots Q (F0 m pc ls (.ref (h 0) :: rest)) := xg1 3 20 (.ref (h 3)) E hW (by decide) q202 rfl hdg kk
theorem xg1_z (E : XE1 D d A p s m args c cc nL) (hW : XW1 D d h A s H locs σ) (hdg : decode cc pc = .ok (.getfield 23, 3)) (kk : W p l e R s m args below meth c H locs cells slots Q (F0 m (pc + 3) ls (.ref (h 4) :: rest))) : W p l e R s m args below meth c H locs cells slots Q (F0 m pc ls (.ref (h 0) :: rest)) := xg1 4 23 (.ref (h 4)) E hW (by decide) q203 rfl hdg kk
theorem xg1_regs (E : XE1 D d A p s m args c cc nL) (hW : XW1 D d h A s H locs σ) (hdg : decode cc pc = .ok (.getfield 26, 3)) (kk : W p l e R s m args below meth c H locs cells slots Q (F0 m (pc + 3) ls (.ref (h 5) :: rest))) : W p l e R s m args below meth c H locs cells slots Q (F0 m pc ls (.ref (h 0) :: rest)) := xg1 5 26 (.ref (h 5)) E hW (by decide) q204 rfl hdg kk
theorem xg1_cells (E : XE1 D d A p s m args c cc nL) (hW : XW1 D d h A s H locs σ) (hdg : decode cc pc = .ok (.getfield 29, 3)) (kk : W p l e R s m args below meth c H locs cells slots Q (F0 m (pc + 3) ls (.ref (h 6) :: rest))) : W p l e R s m args below meth c H locs cells slots Q (F0 m pc ls (.ref (h 0) :: rest)) := xg1 6 29 (.ref (h 6)) E hW (by decide) q205 rfl hdg kk
theorem xg1_fed (E : XE1 D d A p s m args c cc nL) (hW : XW1 D d h A s H locs σ) (hdg : decode cc pc = .ok (.getfield 32, 3)) (kk : W p l e R s m args below meth c H locs cells slots Q (F0 m (pc + 3) ls (.int (σ.1 7) :: rest))) : W p l e R s m args below meth c H locs cells slots Q (F0 m pc ls (.ref (h 0) :: rest)) := xg1 7 32 (.int (σ.1 7)) E hW (by decide) q206 rfl hdg kk
theorem xp1_fed {v : Int32} (E : XE1 D d A p s m args c cc nL) (hW : XW1 D d h A s H locs σ) (hdg : decode cc pc = .ok (.putfield 32, 3)) (kk : ∀ (H1 : Heap) (locs1 : List Loc), XW1 D d h A s H1 locs1 (sI σ 7 v) → W p l e R s m args below meth c H1 locs1 cells slots Q (F0 m (pc + 3) ls rest)) : W p l e R s m args below meth c H locs cells slots Q (F0 m pc ls (.int v :: .ref (h 0) :: rest)) := xp1 7 32 v E hW (by decide) q206 rfl (by decide +kernel) rfl hdg kk
theorem xg1_wrote (E : XE1 D d A p s m args c cc nL) (hW : XW1 D d h A s H locs σ) (hdg : decode cc pc = .ok (.getfield 35, 3)) (kk : W p l e R s m args below meth c H locs cells slots Q (F0 m (pc + 3) ls (.ref (h 8) :: rest))) : W p l e R s m args below meth c H locs cells slots Q (F0 m pc ls (.ref (h 0) :: rest)) := xg1 8 35 (.ref (h 8)) E hW (by decide) q207 rfl hdg kk
theorem xl1_op {i : Int32} {j : Nat} (E : XE1 D d A p s m args c cc nL) (hW : XW1 D d h A s H locs σ) (hi : i = nI j) (hj : j < 20) (hdg : decode cc pc = .ok (.iaload, 1)) (kk : W p l e R s m args below meth c H locs cells slots Q (F0 m (pc + 1) ls (.int (σ.2 1 j) :: rest))) : W p l e R s m args below meth c H locs cells slots Q (F0 m pc ls (.int i :: .ref (h 1) :: rest)) := xli1 1 0 1 20 E hW rfl rfl (by decide) hi hj hdg kk
theorem xs1_op {i x : Int32} {j : Nat} (E : XE1 D d A p s m args c cc nL) (hW : XW1 D d h A s H locs σ) (hi : i = nI j) (hj : j < 20) (hdg : decode cc pc = .ok (.iastore, 1)) (kk : ∀ (H1 : Heap) (locs1 : List Loc), XW1 D d h A s H1 locs1 (sA σ 1 j x) → W p l e R s m args below meth c H1 locs1 cells slots Q (F0 m (pc + 1) ls rest)) : W p l e R s m args below meth c H locs cells slots Q (F0 m pc ls (.int x :: .int i :: .ref (h 1) :: rest)) := xsi1 1 0 1 20 E hW rfl rfl (by decide) (fun _ _ => rfl) hi hj hdg kk
theorem xl1_x {i : Int32} {j : Nat} (E : XE1 D d A p s m args c cc nL) (hW : XW1 D d h A s H locs σ) (hi : i = nI j) (hj : j < 20) (hdg : decode cc pc = .ok (.iaload, 1)) (kk : W p l e R s m args below meth c H locs cells slots Q (F0 m (pc + 1) ls (.int (σ.2 2 j) :: rest))) : W p l e R s m args below meth c H locs cells slots Q (F0 m pc ls (.int i :: .ref (h 2) :: rest)) := xli1 2 1 2 20 E hW rfl rfl (by decide) hi hj hdg kk
theorem xs1_x {i x : Int32} {j : Nat} (E : XE1 D d A p s m args c cc nL) (hW : XW1 D d h A s H locs σ) (hi : i = nI j) (hj : j < 20) (hdg : decode cc pc = .ok (.iastore, 1)) (kk : ∀ (H1 : Heap) (locs1 : List Loc), XW1 D d h A s H1 locs1 (sA σ 2 j x) → W p l e R s m args below meth c H1 locs1 cells slots Q (F0 m (pc + 1) ls rest)) : W p l e R s m args below meth c H locs cells slots Q (F0 m pc ls (.int x :: .int i :: .ref (h 2) :: rest)) := xsi1 2 1 2 20 E hW rfl rfl (by decide) (fun _ _ => rfl) hi hj hdg kk
theorem xl1_y {i : Int32} {j : Nat} (E : XE1 D d A p s m args c cc nL) (hW : XW1 D d h A s H locs σ) (hi : i = nI j) (hj : j < 20) (hdg : decode cc pc = .ok (.iaload, 1)) (kk : W p l e R s m args below meth c H locs cells slots Q (F0 m (pc + 1) ls (.int (σ.2 3 j) :: rest))) : W p l e R s m args below meth c H locs cells slots Q (F0 m pc ls (.int i :: .ref (h 3) :: rest)) := xli1 3 2 3 20 E hW rfl rfl (by decide) hi hj hdg kk
theorem xs1_y {i x : Int32} {j : Nat} (E : XE1 D d A p s m args c cc nL) (hW : XW1 D d h A s H locs σ) (hi : i = nI j) (hj : j < 20) (hdg : decode cc pc = .ok (.iastore, 1)) (kk : ∀ (H1 : Heap) (locs1 : List Loc), XW1 D d h A s H1 locs1 (sA σ 3 j x) → W p l e R s m args below meth c H1 locs1 cells slots Q (F0 m (pc + 1) ls rest)) : W p l e R s m args below meth c H locs cells slots Q (F0 m pc ls (.int x :: .int i :: .ref (h 3) :: rest)) := xsi1 3 2 3 20 E hW rfl rfl (by decide) (fun _ _ => rfl) hi hj hdg kk
theorem xl1_z {i : Int32} {j : Nat} (E : XE1 D d A p s m args c cc nL) (hW : XW1 D d h A s H locs σ) (hi : i = nI j) (hj : j < 20) (hdg : decode cc pc = .ok (.iaload, 1)) (kk : W p l e R s m args below meth c H locs cells slots Q (F0 m (pc + 1) ls (.int (σ.2 4 j) :: rest))) : W p l e R s m args below meth c H locs cells slots Q (F0 m pc ls (.int i :: .ref (h 4) :: rest)) := xli1 4 3 4 20 E hW rfl rfl (by decide) hi hj hdg kk
theorem xs1_z {i x : Int32} {j : Nat} (E : XE1 D d A p s m args c cc nL) (hW : XW1 D d h A s H locs σ) (hi : i = nI j) (hj : j < 20) (hdg : decode cc pc = .ok (.iastore, 1)) (kk : ∀ (H1 : Heap) (locs1 : List Loc), XW1 D d h A s H1 locs1 (sA σ 4 j x) → W p l e R s m args below meth c H1 locs1 cells slots Q (F0 m (pc + 1) ls rest)) : W p l e R s m args below meth c H locs cells slots Q (F0 m pc ls (.int x :: .int i :: .ref (h 4) :: rest)) := xsi1 4 3 4 20 E hW rfl rfl (by decide) (fun _ _ => rfl) hi hj hdg kk
theorem xl1_regs {i : Int32} {j : Nat} (E : XE1 D d A p s m args c cc nL) (hW : XW1 D d h A s H locs σ) (hi : i = nI j) (hj : j < 6) (hdg : decode cc pc = .ok (.iaload, 1)) (kk : W p l e R s m args below meth c H locs cells slots Q (F0 m (pc + 1) ls (.int (σ.2 5 j) :: rest))) : W p l e R s m args below meth c H locs cells slots Q (F0 m pc ls (.int i :: .ref (h 5) :: rest)) := xli1 5 4 5 6 E hW rfl rfl (by decide) hi hj hdg kk
theorem xs1_regs {i x : Int32} {j : Nat} (E : XE1 D d A p s m args c cc nL) (hW : XW1 D d h A s H locs σ) (hi : i = nI j) (hj : j < 6) (hdg : decode cc pc = .ok (.iastore, 1)) (kk : ∀ (H1 : Heap) (locs1 : List Loc), XW1 D d h A s H1 locs1 (sA σ 5 j x) → W p l e R s m args below meth c H1 locs1 cells slots Q (F0 m (pc + 1) ls rest)) : W p l e R s m args below meth c H locs cells slots Q (F0 m pc ls (.int x :: .int i :: .ref (h 5) :: rest)) := xsi1 5 4 5 6 E hW rfl rfl (by decide) (fun _ _ => rfl) hi hj hdg kk
theorem xl1_cells {i : Int32} {j : Nat} (E : XE1 D d A p s m args c cc nL) (hW : XW1 D d h A s H locs σ) (hi : i = nI j) (hj : j < 16) (hdg : decode cc pc = .ok (.iaload, 1)) (kk : W p l e R s m args below meth c H locs cells slots Q (F0 m (pc + 1) ls (.int (σ.2 6 j) :: rest))) : W p l e R s m args below meth c H locs cells slots Q (F0 m pc ls (.int i :: .ref (h 6) :: rest)) := xli1 6 5 6 16 E hW rfl rfl (by decide) hi hj hdg kk
theorem xs1_cells {i x : Int32} {j : Nat} (E : XE1 D d A p s m args c cc nL) (hW : XW1 D d h A s H locs σ) (hi : i = nI j) (hj : j < 16) (hdg : decode cc pc = .ok (.iastore, 1)) (kk : ∀ (H1 : Heap) (locs1 : List Loc), XW1 D d h A s H1 locs1 (sA σ 6 j x) → W p l e R s m args below meth c H1 locs1 cells slots Q (F0 m (pc + 1) ls rest)) : W p l e R s m args below meth c H locs cells slots Q (F0 m pc ls (.int x :: .int i :: .ref (h 6) :: rest)) := xsi1 6 5 6 16 E hW rfl rfl (by decide) (fun _ _ => rfl) hi hj hdg kk
theorem xl1_wrote {i : Int32} {j : Nat} (E : XE1 D d A p s m args c cc nL) (hW : XW1 D d h A s H locs σ) (hi : i = nI j) (hj : j < 16) (hdg : decode cc pc = .ok (.baload, 1)) (kk : W p l e R s m args below meth c H locs cells slots Q (F0 m (pc + 1) ls (.int (σ.2 8 j) :: rest))) : W p l e R s m args below meth c H locs cells slots Q (F0 m pc ls (.int i :: .ref (h 8) :: rest)) := xlz1 7 6 8 16 E hW rfl rfl (by decide) hi hj hdg kk
theorem xs1_wrote {i x v : Int32} {j : Nat} (E : XE1 D d A p s m args c cc nL) (hW : XW1 D d h A s H locs σ) (hi : i = nI j) (hj : j < 16) (hv : vp_nar .boolean x = v) (hdg : decode cc pc = .ok (.bastore, 1)) (kk : ∀ (H1 : Heap) (locs1 : List Loc), XW1 D d h A s H1 locs1 (sA σ 8 j v) → W p l e R s m args below meth c H1 locs1 cells slots Q (F0 m (pc + 1) ls rest)) : W p l e R s m args below meth c H locs cells slots Q (F0 m pc ls (.int x :: .int i :: .ref (h 8) :: rest)) := xsz1 7 6 8 16 E hW rfl rfl (by decide) (fun _ _ => rfl) hi hj hv hdg kk
end FX_1
end
section
set_option maxRecDepth 100000
def bt (x : Int32) (i : Nat) : Bool := x.toBitVec.getLsbD i
theorem b_ext {x y : Int32} (h : ∀ i, i < 32 → bt x i = bt y i) : x = y := Int32.toBitVec_inj.mp (BitVec.eq_of_getLsbD_eq (fun i hi => h i hi))
theorem b_or (x y : Int32) (i : Nat) : bt (x ||| y) i = (bt x i || bt y i) := by unfold bt; rw [Int32.toBitVec_or, BitVec.getLsbD_or]
theorem b_and (x y : Int32) (i : Nat) : bt (x &&& y) i = (bt x i && bt y i) := by unfold bt; rw [Int32.toBitVec_and, BitVec.getLsbD_and]
theorem b_xor (x y : Int32) (i : Nat) : bt (x ^^^ y) i = (bt x i ^^ bt y i) := by unfold bt; rw [Int32.toBitVec_xor, BitVec.getLsbD_xor]
theorem b_big {x : Int32} {i : Nat} (h : 32 ≤ i) : bt x i = false := BitVec.getLsbD_of_ge _ _ h
theorem b_255 (i : Nat) : bt 255 i = decide (i < 8) := by
  rcases Nat.lt_or_ge i 32 with h | h
  · exact (by decide +kernel : ∀ i, i < 32 → bt 255 i = decide (i < 8)) i h
  · rw [b_big h, decide_eq_false (by omega)]
theorem b_65535 (i : Nat) : bt 65535 i = decide (i < 16) := by
  rcases Nat.lt_or_ge i 32 with h | h
  · exact (by decide +kernel : ∀ i, i < 32 → bt 65535 i = decide (i < 16)) i h
  · rw [b_big h, decide_eq_false (by omega)]
theorem b_m1 : ∀ i, i < 32 → bt (-1) i = true := by decide +kernel
theorem b_0 (i : Nat) : bt 0 i = false := BitVec.getLsbD_zero
theorem s_l : ∀ n, n < 32 → ((nI n &&& 31).toBitVec.smod 32).toNat = n := by decide +kernel
theorem s_u : ∀ n, n < 32 → (((nI n).toUInt32 &&& Int32.toUInt32 31).toBitVec % 32).toNat = n := by decide +kernel
theorem b_shl (n : Nat) (hn : n < 32) (x : Int32) {i : Nat} (hi : i < 32) : bt (x <<< (nI n &&& 31)) i = (decide (n ≤ i) && bt x (i - n)) := by
  unfold bt
  rw [Int32.toBitVec_shiftLeft]
  show (x.toBitVec <<< ((nI n &&& 31).toBitVec.smod 32).toNat).getLsbD i = _
  rw [s_l n hn, BitVec.getLsbD_shiftLeft]
  rcases Nat.lt_or_ge i n with h | h
  · simp [h, Nat.not_le.mpr h]
  · simp [hi, h, Nat.not_lt.mpr h]
theorem b_ushr (n : Nat) (hn : n < 32) (x : Int32) (i : Nat) : bt ((x.toUInt32 >>> ((nI n).toUInt32 &&& Int32.toUInt32 31)).toInt32) i = bt x (n + i) := by
  show (x.toUInt32 >>> ((nI n).toUInt32 &&& Int32.toUInt32 31)).toBitVec.getLsbD i = x.toUInt32.toBitVec.getLsbD (n + i)
  rw [UInt32.toBitVec_shiftRight]
  show (x.toUInt32.toBitVec >>> (((nI n).toUInt32 &&& Int32.toUInt32 31).toBitVec % 32).toNat).getLsbD i = _
  rw [s_u n hn, BitVec.getLsbD_ushiftRight]
theorem b_sshr (n : Nat) (hn : n < 32) (x : Int32) {i : Nat} (hi : i < 32) : bt (x >>> (nI n &&& 31)) i = if n + i < 32 then bt x (n + i) else bt x 31 := by
  unfold bt
  rw [Int32.toBitVec_shiftRight]
  show (x.toBitVec.sshiftRight ((nI n &&& 31).toBitVec.smod 32).toNat).getLsbD i = _
  rw [s_l n hn, BitVec.getLsbD_sshiftRight, BitVec.msb_eq_getLsbD_last]
  simp [hi]
theorem b_1 : ∀ i, i < 32 → bt 1 i = decide (i = 0) := by decide +kernel
/-- one bit, read -/
theorem bit1 (w : Int32) {c : Nat} (hc : c < 16) : (w >>> (nI c &&& 31)) &&& 1 = if bt w c = true then 1 else 0 := by
  apply b_ext
  intro i hi
  rw [b_and, b_sshr c (by omega) w hi, b_1 i hi]
  by_cases h0 : i = 0
  · subst h0
    rw [if_pos (by omega)]
    cases hb : bt w (c + 0)
    · rw [if_neg (by decide), b_0]
      rfl
    · rw [if_pos rfl, b_1 0 (by omega)]
      rfl
  · rw [decide_eq_false h0, Bool.and_false]
    split
    · rw [b_1 i hi, decide_eq_false h0]
    · rw [b_0]
/-- which cells the run has written: the class's bits, the reference's flags -/
def wbk (w : Int32) (wr : Nat → Int32) : Prop := ∀ c, c < 16 → (w >>> (nI c &&& 31)) &&& 1 = wr c
theorem wbk_or {w : Int32} {wr : Nat → Int32} {c : Nat} (hc : c < 16) (h : wbk w wr) : wbk (w ||| ((1 : Int32) <<< (nI c &&& 31))) (upd wr c 1) := by
  intro j hj
  have h1 := h j hj
  rw [bit1 _ hj] at h1 ⊢
  unfold upd
  rw [b_or, b_shl c (by omega) 1 (by omega)]
  by_cases hjc : j = c
  · subst hjc
    rw [if_pos rfl, Nat.sub_self, b_1 0 (by omega)]
    simp
  · rw [if_neg hjc, ← h1]
    by_cases hcj : c ≤ j
    · rw [b_1 (j - c) (by omega), decide_eq_false (show ¬ j - c = 0 by omega)]
      simp
    · rw [decide_eq_false hcj]
      simp
theorem wbk_0 {wr : Nat → Int32} (h : ∀ c, c < 16 → wr c = 0) : wbk 0 wr := by
  intro c hc
  rw [bit1 _ hc, h c hc, b_0]
  rfl
theorem wbk_01 {w : Int32} {wr : Nat → Int32} (h : wbk w wr) {c : Nat} (hc : c < 16) : wr c = 0 ∨ wr c = 1 := by
  have h1 := h c hc
  rw [bit1 _ hc] at h1
  rw [← h1]
  split
  · exact Or.inr rfl
  · exact Or.inl rfl
end
section
/-! the pure side: what the queue's arrays mean, with no machine in sight -/
set_option maxRecDepth 100000
theorem b8 : ∀ k, k < 128 → (nI k).toInt8.toInt32 = nI k := by decide +kernel
theorem nb8 {k : Nat} (h : k < 128) : vp_nar .byte (nI k) = nI k := by rw [vp_nar_byte]; exact b8 k h
theorem nb8m : vp_nar .byte (-1) = -1 := by decide +kernel
theorem ii1 (k : Nat) : nI k + Int32.ofInt 1 = nI (k + 1) := nI_1 k
theorem im1 (k : Nat) : nI (k + 1) + Int32.ofInt (-1) = nI k := pk_m1 k
theorem m1_neg : (-1 : Int32) < 0 := by decide +kernel
theorem nI_lit (k : Nat) : (OfNat.ofNat k : Int32) = nI k := rfl
/-- x and y with the same number -/
theorem nI_inj {a b : Nat} (ha : a < 2 ^ 31) (hb : b < 2 ^ 31) (h : nI a = nI b) : a = b := (nI_eq ha hb).mp h
theorem nI_m1 {a : Nat} (ha : a < 2 ^ 31) : nI a ≠ -1 := fun h => by
  have h1 := nI_pos ha
  rw [h] at h1
  exact h1 m1_neg
abbrev tn (x : Int32) : Nat := x.toNatClampNeg
theorem tn_nI {k : Nat} (h : k < 2 ^ 31) : tn (nI k) = k := nI_clamp h
/-- the instruction has three registers -/
def thr (o : Int32) : Prop := o = 6 ∨ (¬ o < 1 ∧ ¬ 3 < o)
/-- who gave register r its value ahead of instruction k -/
def lwr (op x : Nat → Int32) : Nat → Nat → Int32
  | 0, _ => -1
  | k + 1, r => if op k ≠ 5 ∧ x k = nI r then nI k else lwr op x k r
def gs (op x : Nat → Int32) (k r : Nat) (g : Int32) : Prop :=
  (g = -1 ∧ ∀ j, j < k → op j ≠ 5 → x j ≠ nI r) ∨ (∃ j, j < k ∧ g = nI j ∧ op j ≠ 5 ∧ x j = nI r ∧ ∀ i, j < i → i < k → op i ≠ 5 → x i ≠ nI r)
theorem lwr_gs (op x : Nat → Int32) (r : Nat) : ∀ k, gs op x k r (lwr op x k r) := by
  intro k
  induction k with
  | zero => exact Or.inl ⟨rfl, fun j hj => absurd hj (Nat.not_lt_zero j)⟩
  | succ k ih =>
    unfold lwr
    by_cases h : op k ≠ 5 ∧ x k = nI r
    · rw [if_pos h]
      exact Or.inr ⟨k, Nat.lt_succ_self k, rfl, h.1, h.2, fun i h1 h2 => by omega⟩
    · rw [if_neg h]
      have hk : op k ≠ 5 → x k ≠ nI r := fun h1 h2 => h ⟨h1, h2⟩
      rcases ih with ⟨h1, h2⟩ | ⟨j, h1, h2, h3, h4, h5⟩
      · refine Or.inl ⟨h1, fun j hj => ?_⟩
        rcases Nat.lt_or_ge j k with h | h
        · exact h2 j h
        · rw [show j = k by omega]; exact hk
      · refine Or.inr ⟨j, Nat.lt_succ_of_lt h1, h2, h3, h4, fun i hi1 hi2 => ?_⟩
        rcases Nat.lt_or_ge i k with h | h
        · exact h5 i hi1 h
        · rw [show i = k by omega]; exact hk
/-- the program's rows are as emit lets them in -/
def pg_ok (a : Nat → Nat → Int32) (n : Nat) : Prop := ∀ k, k < n → (∃ o, o ≤ 6 ∧ a 1 k = nI o) ∧ (∃ r, r < 6 ∧ a 2 k = nI r) ∧ (a 1 k ≠ 0 → ∃ r, r < 6 ∧ a 3 k = nI r) ∧ (thr (a 1 k) → ∃ r, r < 6 ∧ a 4 k = nI r)
def gv_ok (a : Nat → Nat → Int32) (n : Nat) : Prop := ∀ k, k < n → gs (a 1) (a 2) k (tn (a 2 k)) (a 9 k) ∧ (a 1 k ≠ 0 → gs (a 1) (a 2) k (tn (a 3 k)) (a 10 k)) ∧ (a 1 k = 0 → a 10 k = -1) ∧ (thr (a 1 k) → gs (a 1) (a 2) k (tn (a 4 k)) (a 11 k)) ∧ (¬ thr (a 1 k) → a 11 k = -1)
def vF (a : Nat → Nat → Int32) (g r : Int32) : Int32 := if g < 0 then a 5 (tn r) else a 15 (tn g)
def dn (a : Nat → Nat → Int32) (g : Int32) : Prop := g < 0 ∨ a 13 (tn g) = 2
def aF (a : Nat → Nat → Int32) (k : Nat) : Int32 := (vF a (a 10 k) (a 3 k) + a 4 k) &&& 15
def pV (a : Nat → Nat → Int32) (k : Nat) : Int32 :=
  if a 1 k = 0 then a 3 k else if a 1 k = 1 then vF a (a 10 k) (a 3 k) + vF a (a 11 k) (a 4 k) else if a 1 k = 2 then vF a (a 10 k) (a 3 k) - vF a (a 11 k) (a 4 k) else if a 1 k = 3 then vF a (a 10 k) (a 3 k) * vF a (a 11 k) (a 4 k) else if vF a (a 10 k) (a 3 k) ≤ 0 then vF a (a 9 k) (a 2 k) else vF a (a 11 k) (a 4 k)
def St (a : Nat → Nat → Int32) (k : Nat) : Prop := dn a (a 10 k) ∧ (a 1 k = 6 → dn a (a 9 k)) ∧ (thr (a 1 k) → dn a (a 11 k))
def LD (a : Nat → Nat → Int32) (hd k : Nat) : Prop := ∃ s : Nat, s ≤ k ∧ a 17 k = nI s - 1 ∧ (s ≤ hd → a 15 k = a 6 (tn (a 16 k))) ∧ (hd < s → a 1 (s - 1) = 5 ∧ a 13 (s - 1) = 2 ∧ a 16 (s - 1) = a 16 k ∧ a 15 k = a 15 (s - 1)) ∧ ∀ j, hd ≤ j → s ≤ j → j < k → a 1 j = 5 → a 16 j ≠ a 16 k
/-- what holds of an instruction that has not taken effect -/
def OKi (a : Nat → Nat → Int32) (hd k : Nat) : Prop :=
  (a 13 k = 0 ∧ a 16 k = -1) ∨
  (a 13 k = 1 ∧ St a k ∧ (∃ t, t ≤ 3 ∧ a 14 k = nI t) ∧ (a 1 k = 5 → a 16 k = -1 ∨ a 16 k = aF a k)) ∨
  (a 13 k = 2 ∧ St a k ∧ (a 1 k = 5 → dn a (a 9 k) ∧ a 16 k = aF a k ∧ a 15 k = vF a (a 9 k) (a 2 k)) ∧ (a 1 k = 4 → a 16 k = aF a k ∧ LD a hd k) ∧ (a 1 k ≠ 4 → a 1 k ≠ 5 → a 15 k = pV a k))
def Inv (a : Nat → Nat → Int32) (n hd : Nat) : Prop :=
  hd ≤ n ∧ n ≤ 20 ∧ pg_ok a n ∧ gv_ok a n ∧ (∀ k, k < hd → a 13 k = 2) ∧ (∀ k, k < hd → a 1 k ≠ 5 → (∀ j, k < j → j < hd → a 1 j ≠ 5 → a 2 j ≠ a 2 k) → a 15 k = a 5 (tn (a 2 k))) ∧ (∀ k, hd ≤ k → k < n → OKi a hd k)
def same7 (a b : Nat → Nat → Int32) : Prop := b 1 = a 1 ∧ b 2 = a 2 ∧ b 3 = a 3 ∧ b 4 = a 4 ∧ b 9 = a 9 ∧ b 10 = a 10 ∧ b 11 = a 11
def same9 (a b : Nat → Nat → Int32) : Prop := same7 a b ∧ b 5 = a 5 ∧ b 6 = a 6
def eqAt (a b : Nat → Nat → Int32) (j : Nat) : Prop := b 13 j = a 13 j ∧ b 14 j = a 14 j ∧ b 15 j = a 15 j ∧ b 16 j = a 16 j ∧ b 17 j = a 17 j
theorem eqAt.rf {a : Nat → Nat → Int32} {j : Nat} : eqAt a a j := ⟨rfl, rfl, rfl, rfl, rfl⟩
theorem same9.rf {a : Nat → Nat → Int32} : same9 a a := ⟨⟨rfl, rfl, rfl, rfl, rfl, rfl, rfl⟩, rfl, rfl⟩
theorem same9.tr {a b c : Nat → Nat → Int32} (h : same9 a b) (k : same9 b c) : same9 a c := by
  obtain ⟨⟨h1, h2, h3, h4, h5, h6, h7⟩, h8, h9⟩ := h
  obtain ⟨⟨k1, k2, k3, k4, k5, k6, k7⟩, k8, k9⟩ := k
  exact ⟨⟨k1.trans h1, k2.trans h2, k3.trans h3, k4.trans h4, k5.trans h5, k6.trans h6, k7.trans h7⟩, k8.trans h8, k9.trans h9⟩
theorem eqAt.tr {a b c : Nat → Nat → Int32} {j : Nat} (h : eqAt a b j) (k : eqAt b c j) : eqAt a c j := by
  obtain ⟨h1, h2, h3, h4, h5⟩ := h
  obtain ⟨k1, k2, k3, k4, k5⟩ := k
  exact ⟨k1.trans h1, k2.trans h2, k3.trans h3, k4.trans h4, k5.trans h5⟩
theorem gs_lt {op x : Nat → Int32} {k r : Nat} {g : Int32} (h : gs op x k r g) : g < 0 ∨ ∃ j, j < k ∧ g = nI j := by
  rcases h with ⟨h, -⟩ | ⟨j, h1, h2, -⟩
  · exact Or.inl (by rw [h]; exact m1_neg)
  · exact Or.inr ⟨j, h1, h2⟩
/-- the givers of an instruction are older than it -/
theorem gv_lt {a : Nat → Nat → Int32} {n k : Nat} (h : gv_ok a n) (hk : k < n) {g : Int32} (hg : g = a 9 k ∨ g = a 10 k ∨ g = a 11 k) : g < 0 ∨ ∃ j, j < k ∧ g = nI j := by
  obtain ⟨h1, h2, h3, h4, h5⟩ := h k hk
  rcases hg with rfl | rfl | rfl
  · exact gs_lt h1
  · by_cases c : a 1 k = 0
    · exact Or.inl (by rw [h3 c]; exact m1_neg)
    · exact gs_lt (h2 c)
  · by_cases c : thr (a 1 k)
    · exact gs_lt (h4 c)
    · exact Or.inl (by rw [h5 c]; exact m1_neg)
theorem pV_keep {a b : Nat → Nat → Int32} {k : Nat} (hs : same7 a b) (hv : ∃ o, o ≤ 6 ∧ a 1 k = nI o) (h4 : a 1 k ≠ 4) (h5 : a 1 k ≠ 5)
    (gx : a 1 k = 6 → vF b (a 9 k) (a 2 k) = vF a (a 9 k) (a 2 k)) (gy : a 1 k ≠ 0 → vF b (a 10 k) (a 3 k) = vF a (a 10 k) (a 3 k)) (gz : thr (a 1 k) → vF b (a 11 k) (a 4 k) = vF a (a 11 k) (a 4 k)) : pV b k = pV a k := by
  obtain ⟨s1, s2, s3, s4, s9, s10, s11⟩ := hs
  unfold pV
  rw [s1, s2, s3, s4, s9, s10, s11]
  obtain ⟨o, ho, eo⟩ := hv
  by_cases c0 : a 1 k = 0
  · simp only [if_pos c0]
  rw [gy c0]
  have hh : thr (a 1 k) := by
    rw [eo] at c0 h4 h5 ⊢
    match o, ho with
    | 0, _ => exact absurd rfl c0
    | 1, _ => exact Or.inr (by decide +kernel)
    | 2, _ => exact Or.inr (by decide +kernel)
    | 3, _ => exact Or.inr (by decide +kernel)
    | 4, _ => exact absurd rfl h4
    | 5, _ => exact absurd rfl h5
    | 6, _ => exact Or.inl rfl
  rw [gz hh]
  by_cases c6 : a 1 k = 6
  · rw [gx c6]
  · have c1 : a 1 k = 1 ∨ a 1 k = 2 ∨ a 1 k = 3 := by
      rw [eo] at c0 h4 h5 c6 ⊢
      match o, ho with
      | 0, _ => exact absurd rfl c0
      | 1, _ => exact Or.inl rfl
      | 2, _ => exact Or.inr (Or.inl rfl)
      | 3, _ => exact Or.inr (Or.inr rfl)
      | 4, _ => exact absurd rfl h4
      | 5, _ => exact absurd rfl h5
      | 6, _ => exact absurd rfl c6
    rcases c1 with c | c | c
    · simp only [if_neg c0, if_pos c]
    · simp only [if_neg c0, if_pos c, if_neg (show ¬ a 1 k = 1 by rw [c]; decide)]
    · simp only [if_neg c0, if_pos c, if_neg (show ¬ a 1 k = 1 by rw [c]; decide), if_neg (show ¬ a 1 k = 2 by rw [c]; decide)]
theorem ok_gen {a b : Nat → Nat → Int32} {hd hd' k : Nat} (hs : same7 a b) (hk : eqAt a b k) (hv : ∃ o, o ≤ 6 ∧ a 1 k = nI o)
    (gx : dn a (a 9 k) → dn b (a 9 k) ∧ vF b (a 9 k) (a 2 k) = vF a (a 9 k) (a 2 k))
    (gy : dn a (a 10 k) → dn b (a 10 k) ∧ (a 1 k ≠ 0 → vF b (a 10 k) (a 3 k) = vF a (a 10 k) (a 3 k)))
    (gz : thr (a 1 k) → dn a (a 11 k) → dn b (a 11 k) ∧ vF b (a 11 k) (a 4 k) = vF a (a 11 k) (a 4 k))
    (hL : a 1 k = 4 → a 13 k = 2 → a 16 k = aF a k → LD a hd k → LD b hd' k) (h : OKi a hd k) : OKi b hd' k := by
  obtain ⟨e13, e14, e15, e16, e17⟩ := hk
  have hs0 := hs
  obtain ⟨s1, s2, s3, s4, s9, s10, s11⟩ := hs
  have hSt : St a k → St b k := by
    intro ⟨c1, c2, c3⟩
    unfold St
    rw [s1, s9, s10, s11]
    exact ⟨(gy c1).1, fun c => (gx (c2 c)).1, fun c => (gz c (c3 c)).1⟩
  have haF : St a k → a 1 k ≠ 0 → aF b k = aF a k := by
    intro c1 c
    unfold aF
    rw [s10, s3, s4, (gy c1.1).2 c]
  rcases h with ⟨h1, h2⟩ | ⟨h1, h2, h3, h4⟩ | ⟨h1, h2, h3, h4, h5⟩
  · exact Or.inl ⟨e13.trans h1, e16.trans h2⟩
  · refine Or.inr (Or.inl ⟨e13.trans h1, hSt h2, ?_, ?_⟩)
    · obtain ⟨t, t1, t2⟩ := h3
      exact ⟨t, t1, e14.trans t2⟩
    · rw [s1]
      intro c
      rw [e16, haF h2 (by rw [c]; decide)]
      exact h4 c
  · refine Or.inr (Or.inr ⟨e13.trans h1, hSt h2, ?_, ?_, ?_⟩)
    · rw [s1]
      intro c
      obtain ⟨c1, c2, c3⟩ := h3 c
      refine ⟨by rw [s9]; exact (gx c1).1, ?_, ?_⟩
      · rw [e16, haF h2 (by rw [c]; decide)]
        exact c2
      · rw [e15, s9, s2, (gx c1).2]
        exact c3
    · rw [s1]
      intro c
      obtain ⟨c1, c2⟩ := h4 c
      exact ⟨by rw [e16, haF h2 (by rw [c]; decide)]; exact c1, hL c h1 c1 c2⟩
    · rw [s1]
      intro c4 c5
      rw [e15, pV_keep hs0 hv c4 c5 (fun c => (gx (h2.2.1 c)).2) (gy h2.1).2 (fun c => (gz c (h2.2.2 c)).2)]
      exact h5 c4 c5
/-- a giver that is there stays as it is when one that is not done changes -/
theorem dn_keep {a b : Nat → Nat → Int32} {i l k : Nat} (h5 : b 5 = a 5) (hi : a 13 i ≠ 2) (ho : ∀ j, j < l → j ≠ i → eqAt a b j) (hkl : k ≤ l) (hn : l ≤ 20) {g : Int32} (hg : g < 0 ∨ ∃ j, j < k ∧ g = nI j) (hd : dn a g) : dn b g ∧ ∀ r, vF b g r = vF a g r := by
  rcases hg with hg | ⟨j, hj, rfl⟩
  · exact ⟨Or.inl hg, fun r => by unfold vF; rw [if_pos hg, if_pos hg, h5]⟩
  · have hj2 : j < 2 ^ 31 := by omega
    have hng : ¬ nI j < 0 := nI_pos hj2
    rcases hd with hd | hd
    · exact absurd hd hng
    · rw [tn_nI hj2] at hd
      have hne : j ≠ i := fun h => hi (by rw [← h]; exact hd)
      obtain ⟨e13, e14, e15, e16, e17⟩ := ho j (by omega) hne
      refine ⟨Or.inr (by rw [tn_nI hj2, e13]; exact hd), fun r => ?_⟩
      unfold vF
      rw [if_neg hng, if_neg hng, tn_nI hj2, e15]
/-- one instruction that is not done changes, and those from l on are set back -/
theorem inv_upd {a b : Nat → Nat → Int32} {n hd i l : Nat} (h : Inv a n hd) (hi1 : hd ≤ i) (hil : i < l) (hln : l ≤ n) (hi : a 13 i ≠ 2) (hs : same9 a b) (ho : ∀ j, j < l → j ≠ i → eqAt a b j) (hb : ∀ j, l ≤ j → j < n → b 13 j = 0 ∧ b 16 j = -1)
    (hm : a 1 i = 5 → b 16 i = a 16 i ∨ ∀ k, i < k → k < l → a 1 k = 4 → a 13 k = 2 → a 16 k = b 16 i → ∀ s, s ≤ k → a 17 k = nI s - 1 → i < s) (hok : OKi b hd i) : Inv b n hd := by
  obtain ⟨h1, h2, h3, h4, h5, h6, h7⟩ := h
  have hs0 := hs
  obtain ⟨⟨s1, s2, s3, s4, s9, s10, s11⟩, s5, s6⟩ := hs
  refine ⟨h1, h2, ?_, ?_, ?_, ?_, ?_⟩
  · unfold pg_ok; rw [s1, s2, s3, s4]; exact h3
  · unfold gv_ok; rw [s1, s2, s3, s4, s9, s10, s11]; exact h4
  · intro k hk
    exact (ho k (by omega) (by omega)).1.trans (h5 k hk)
  · rw [s1, s2, s5]
    intro k hk c1 c2
    rw [(ho k (by omega) (by omega)).2.2.1]
    exact h6 k hk c1 c2
  · intro k hk1 hk2
    rcases Nat.lt_or_ge k l with hkl | hkl
    · by_cases hki : k = i
      · rw [hki]; exact hok
      · have hgl : ∀ g : Int32, (g = a 9 k ∨ g = a 10 k ∨ g = a 11 k) → dn a g → dn b g ∧ ∀ r, vF b g r = vF a g r := fun g hg hd => dn_keep s5 hi ho (Nat.le_of_lt hkl) (by omega) (gv_lt h4 hk2 hg) hd
        refine ok_gen hs0.1 (ho k hkl hki) (h3 k hk2).1 (fun c => ⟨(hgl _ (Or.inl rfl) c).1, (hgl _ (Or.inl rfl) c).2 _⟩) (fun c => ⟨(hgl _ (Or.inr (Or.inl rfl)) c).1, fun _ => (hgl _ (Or.inr (Or.inl rfl)) c).2 _⟩) (fun _ c => ⟨(hgl _ (Or.inr (Or.inr rfl)) c).1, (hgl _ (Or.inr (Or.inr rfl)) c).2 _⟩) ?_ (h7 k hk1 hk2)
        intro c4 c13 _ ⟨s, q1, q2, q3, q4, q5⟩
        obtain ⟨e13, e14, e15, e16, e17⟩ := ho k hkl hki
        refine ⟨s, q1, e17.trans q2, ?_, ?_, ?_⟩
        · intro c
          rw [e15, e16, s6]
          exact q3 c
        · intro c
          obtain ⟨r1, r2, r3, r4⟩ := q4 c
          have hne : s - 1 ≠ i := fun z => hi (by rw [← z]; exact r2)
          obtain ⟨f13, f14, f15, f16, f17⟩ := ho (s - 1) (by omega) hne
          exact ⟨by rw [s1]; exact r1, f13.trans r2, by rw [f16, e16]; exact r3, by rw [e15, f15]; exact r4⟩
        · intro j j1 j2 j3 j4
          rw [s1] at j4
          rw [e16]
          by_cases hji : j = i
          · subst hji
            rcases hm j4 with z | z
            · rw [z]; exact q5 j j1 j2 j3 j4
            · intro w
              have := z k j3 hkl c4 c13 w.symm s q1 q2
              omega
          · rw [(ho j (by omega) hji).2.2.2.1]
            exact q5 j j1 j2 j3 j4
    · obtain ⟨z1, z2⟩ := hb k hkl hk2
      exact Or.inl ⟨z1, z2⟩
/-- the oldest instruction that has not taken effect: its givers have -/
theorem head_dn {a : Nat → Nat → Int32} {n hd : Nat} (h : Inv a n hd) (hn : hd < n) {g : Int32} (hg : g = a 9 hd ∨ g = a 10 hd ∨ g = a 11 hd) : dn a g := by
  obtain ⟨h1, h2, h3, h4, h5, h6, h7⟩ := h
  rcases gv_lt h4 hn hg with c | ⟨j, hj, rfl⟩
  · exact Or.inl c
  · exact Or.inr (by rw [tn_nI (by omega)]; exact h5 j hj)
theorem head_St {a : Nat → Nat → Int32} {n hd : Nat} (h : Inv a n hd) (hn : hd < n) : St a hd :=
  ⟨head_dn h hn (Or.inr (Or.inl rfl)), fun _ => head_dn h hn (Or.inl rfl), fun _ => head_dn h hn (Or.inr (Or.inr rfl))⟩
theorem head_vF {a : Nat → Nat → Int32} {n hd : Nat} (h : Inv a n hd) {g ρ : Int32} (hr : ∃ r, r < 6 ∧ ρ = nI r) (hg : gs (a 1) (a 2) hd (tn ρ) g) : vF a g ρ = a 5 (tn ρ) := by
  obtain ⟨h1, h2, h3, h4, h5, h6, h7⟩ := h
  obtain ⟨r, hr, rfl⟩ := hr
  rw [tn_nI (by omega)] at hg
  rw [tn_nI (by omega)]
  rcases hg with ⟨rfl, -⟩ | ⟨j, hj, rfl, c1, c2, c3⟩
  · unfold vF
    rw [if_pos m1_neg, tn_nI (by omega)]
  · unfold vF
    rw [if_neg (nI_pos (by omega)), tn_nI (by omega)]
    have := h6 j hj c1 (fun i i1 i2 i3 => by rw [c2]; exact c3 i i1 i2 i3)
    rw [this, c2, tn_nI (by omega)]
theorem aF_nI (a : Nat → Nat → Int32) (k : Nat) : ∃ c, c < 16 ∧ aF a k = nI c := pk_andE _ (m := 15) 4 rfl
/-! ===== one instruction after the other ===== -/
abbrev Sq : Type := (Nat → Int32) × (Nat → Int32) × (Nat → Int32) × Int32
def sqV (op x y z rg : Nat → Int32) (k : Nat) : Int32 :=
  if op k = 0 then y k else if op k = 6 then (if rg (tn (y k)) ≤ 0 then rg (tn (x k)) else rg (tn (z k))) else if op k = 1 then rg (tn (y k)) + rg (tn (z k)) else if op k = 2 then rg (tn (y k)) - rg (tn (z k)) else rg (tn (y k)) * rg (tn (z k))
def sqC (y z rg : Nat → Int32) (k : Nat) : Nat := tn ((rg (tn (y k)) + z k) &&& 15)
def sqStep (op x y z : Nat → Int32) (k : Nat) (T : Sq) : Sq :=
  if op k = 4 then (upd T.1 (tn (x k)) (T.2.1 (sqC y z T.1 k)), T.2.1, T.2.2.1, if T.2.2.1 (sqC y z T.1 k) = 0 then T.2.2.2 else T.2.2.2 + 1)
  else if op k = 5 then (T.1, upd T.2.1 (sqC y z T.1 k) (T.1 (tn (x k))), upd T.2.2.1 (sqC y z T.1 k) 1, T.2.2.2)
  else (upd T.1 (tn (x k)) (sqV op x y z T.1 k), T.2.1, T.2.2.1, T.2.2.2)
def sqN (op x y z : Nat → Int32) (T : Sq) : Nat → Sq
  | 0 => T
  | k + 1 => sqStep op x y z k (sqN op x y z T k)
/-- at the head, done: the result is that of one instruction after the other -/
theorem head_4 {a : Nat → Nat → Int32} {n hd : Nat} (h : Inv a n hd) (hn : hd < n) (hp : a 13 hd = 2) (c4 : a 1 hd = 4) : tn (a 16 hd) = sqC (a 3) (a 4) (a 5) hd ∧ (∃ c, c < 16 ∧ a 16 hd = nI c) ∧ a 15 hd = a 6 (sqC (a 3) (a 4) (a 5) hd) := by
  obtain ⟨h1, h2, h3, h4, h5, h6, h7⟩ := id h
  have c0 : a 1 hd ≠ 0 := by rw [c4]; decide
  have hvy : vF a (a 10 hd) (a 3 hd) = a 5 (tn (a 3 hd)) := head_vF h ((h3 hd hn).2.2.1 c0) ((h4 hd hn).2.1 c0)
  have haF : aF a hd = (a 5 (tn (a 3 hd)) + a 4 hd) &&& 15 := by unfold aF; rw [hvy]
  rcases h7 hd (Nat.le_refl _) hn with ⟨q, -⟩ | ⟨q, -⟩ | ⟨-, q2, q3, q4, q5⟩
  · rw [hp] at q; exact absurd q (by decide)
  · rw [hp] at q; exact absurd q (by decide)
  · obtain ⟨e, s, s1, s2, s3, s4, s5⟩ := q4 c4
    have et : tn (a 16 hd) = sqC (a 3) (a 4) (a 5) hd := by rw [e, haF]; rfl
    refine ⟨et, ?_, ?_⟩
    · obtain ⟨c, hc, ec⟩ := aF_nI a hd
      exact ⟨c, hc, e.trans ec⟩
    · rw [s3 s1, et]
theorem head_5 {a : Nat → Nat → Int32} {n hd : Nat} (h : Inv a n hd) (hn : hd < n) (hp : a 13 hd = 2) (c5 : a 1 hd = 5) : tn (a 16 hd) = sqC (a 3) (a 4) (a 5) hd ∧ (∃ c, c < 16 ∧ a 16 hd = nI c) ∧ a 15 hd = a 5 (tn (a 2 hd)) := by
  obtain ⟨h1, h2, h3, h4, h5, h6, h7⟩ := id h
  have c0 : a 1 hd ≠ 0 := by rw [c5]; decide
  have hvy : vF a (a 10 hd) (a 3 hd) = a 5 (tn (a 3 hd)) := head_vF h ((h3 hd hn).2.2.1 c0) ((h4 hd hn).2.1 c0)
  have hvx : vF a (a 9 hd) (a 2 hd) = a 5 (tn (a 2 hd)) := head_vF h (h3 hd hn).2.1 (h4 hd hn).1
  have haF : aF a hd = (a 5 (tn (a 3 hd)) + a 4 hd) &&& 15 := by unfold aF; rw [hvy]
  rcases h7 hd (Nat.le_refl _) hn with ⟨q, -⟩ | ⟨q, -⟩ | ⟨-, q2, q3, q4, q5⟩
  · rw [hp] at q; exact absurd q (by decide)
  · rw [hp] at q; exact absurd q (by decide)
  · obtain ⟨-, e, e2⟩ := q3 c5
    have et : tn (a 16 hd) = sqC (a 3) (a 4) (a 5) hd := by rw [e, haF]; rfl
    refine ⟨et, ?_, by rw [e2, hvx]⟩
    obtain ⟨c, hc, ec⟩ := aF_nI a hd
    exact ⟨c, hc, e.trans ec⟩
theorem head_p {a : Nat → Nat → Int32} {n hd : Nat} (h : Inv a n hd) (hn : hd < n) (hp : a 13 hd = 2) (c4 : a 1 hd ≠ 4) (c5 : a 1 hd ≠ 5) : a 15 hd = sqV (a 1) (a 2) (a 3) (a 4) (a 5) hd := by
  obtain ⟨h1, h2, h3, h4, h5, h6, h7⟩ := id h
  rcases h7 hd (Nat.le_refl _) hn with ⟨q, -⟩ | ⟨q, -⟩ | ⟨-, q2, q3, q4, q5⟩
  · rw [hp] at q; exact absurd q (by decide)
  · rw [hp] at q; exact absurd q (by decide)
  · rw [q5 c4 c5]
    obtain ⟨⟨o, ho, eo⟩, v2, v3, v4⟩ := h3 hd hn
    unfold pV sqV
    by_cases c0 : a 1 hd = 0
    · rw [if_pos c0, if_pos c0]
    rw [if_neg c0, if_neg c0]
    have hvy : vF a (a 10 hd) (a 3 hd) = a 5 (tn (a 3 hd)) := head_vF h (v3 c0) ((h4 hd hn).2.1 c0)
    have hvx : vF a (a 9 hd) (a 2 hd) = a 5 (tn (a 2 hd)) := head_vF h v2 (h4 hd hn).1
    have hc : a 1 hd = 1 ∨ a 1 hd = 2 ∨ a 1 hd = 3 ∨ a 1 hd = 6 := by
      rw [eo] at c0 c4 c5 ⊢
      match o, ho with
      | 0, _ => exact absurd rfl c0
      | 1, _ => exact Or.inl rfl
      | 2, _ => exact Or.inr (Or.inl rfl)
      | 3, _ => exact Or.inr (Or.inr (Or.inl rfl))
      | 4, _ => exact absurd rfl c4
      | 5, _ => exact absurd rfl c5
      | 6, _ => exact Or.inr (Or.inr (Or.inr rfl))
    have hth : thr (a 1 hd) := by
      rcases hc with c | c | c | c
      · rw [c]; exact Or.inr (by decide +kernel)
      · rw [c]; exact Or.inr (by decide +kernel)
      · rw [c]; exact Or.inr (by decide +kernel)
      · exact Or.inl c
    have hvz : vF a (a 11 hd) (a 4 hd) = a 5 (tn (a 4 hd)) := head_vF h (v4 hth) ((h4 hd hn).2.2.2.1 hth)
    rw [hvx, hvy, hvz]
    rcases hc with c | c | c | c
    · rw [if_pos c, if_neg (show ¬ a 1 hd = 6 by rw [c]; decide), if_pos c]
    · rw [if_neg (show ¬ a 1 hd = 1 by rw [c]; decide), if_pos c, if_neg (show ¬ a 1 hd = 6 by rw [c]; decide), if_neg (show ¬ a 1 hd = 1 by rw [c]; decide), if_pos c]
    · rw [if_neg (show ¬ a 1 hd = 1 by rw [c]; decide), if_neg (show ¬ a 1 hd = 2 by rw [c]; decide), if_pos c, if_neg (show ¬ a 1 hd = 6 by rw [c]; decide), if_neg (show ¬ a 1 hd = 1 by rw [c]; decide), if_neg (show ¬ a 1 hd = 2 by rw [c]; decide)]
    · rw [if_neg (show ¬ a 1 hd = 1 by rw [c]; decide), if_neg (show ¬ a 1 hd = 2 by rw [c]; decide), if_neg (show ¬ a 1 hd = 3 by rw [c]; decide), if_pos c]
/-- the head takes effect -/
theorem inv_take {a b : Nat → Nat → Int32} {n hd : Nat} (h : Inv a n hd) (hn : hd < n) (hp : a 13 hd = 2) (hs : same7 a b) (he : ∀ j, eqAt a b j)
    (hst : a 1 hd = 5 → b 5 = a 5 ∧ b 6 = upd (a 6) (tn (a 16 hd)) (a 15 hd)) (hpl : a 1 hd ≠ 5 → b 5 = upd (a 5) (tn (a 2 hd)) (a 15 hd) ∧ b 6 = a 6) : Inv b n (hd + 1) := by
  obtain ⟨h1, h2, h3, h4, h5, h6, h7⟩ := id h
  have hs0 := hs
  obtain ⟨s1, s2, s3, s4, s9, s10, s11⟩ := hs
  have hx : ∀ k, k < n → ∃ r, r < 6 ∧ a 2 k = nI r := fun k hk => (h3 k hk).2.1
  have hdn : ∀ g, dn a g → dn b g := fun g hg => by
    rcases hg with hg | hg
    · exact Or.inl hg
    · exact Or.inr ((he _).1.trans hg)
  have hvF : ∀ (k : Nat) (g ρ : Int32), hd < k → k < n → (∃ r, r < 6 ∧ ρ = nI r) → gs (a 1) (a 2) k (tn ρ) g → vF b g ρ = vF a g ρ := by
    intro k g ρ hk hkn ⟨r, hr, er⟩ hg
    unfold vF
    rcases hg with ⟨rfl, hg⟩ | ⟨j, hj, rfl, -⟩
    · rw [if_pos m1_neg, if_pos m1_neg]
      by_cases c5 : a 1 hd = 5
      · rw [(hst c5).1]
      · rw [(hpl c5).1]
        obtain ⟨r1, hr1, er1⟩ := hx hd hn
        have hne := hg hd hk c5
        unfold upd
        rw [if_neg]
        rw [er, er1, tn_nI (by omega), tn_nI (by omega)]
        intro q
        apply hne
        rw [er, er1, tn_nI (by omega), q]
    · rw [if_neg (nI_pos (by omega)), if_neg (nI_pos (by omega)), (he _).2.2.1]
  refine ⟨hn, h2, ?_, ?_, ?_, ?_, ?_⟩
  · unfold pg_ok; rw [s1, s2, s3, s4]; exact h3
  · unfold gv_ok; rw [s1, s2, s3, s4, s9, s10, s11]; exact h4
  · intro k hk
    rw [(he k).1]
    rcases Nat.lt_or_ge k hd with q | q
    · exact h5 k q
    · rw [show k = hd by omega]; exact hp
  · rw [s1, s2]
    intro k hk c1 c2
    rw [(he k).2.2.1]
    rcases Nat.lt_or_ge k hd with q | q
    · have q2 := h6 k q c1 (fun j j1 j2 => c2 j j1 (by omega))
      by_cases c5 : a 1 hd = 5
      · rw [(hst c5).1]; exact q2
      · rw [(hpl c5).1]
        unfold upd
        rw [if_neg]
        · exact q2
        · obtain ⟨r1, hr1, er1⟩ := hx hd hn
          obtain ⟨r2, hr2, er2⟩ := hx k (by omega)
          have hne := c2 hd q (Nat.lt_succ_self _) c5
          rw [er1, er2, tn_nI (by omega), tn_nI (by omega)]
          intro z
          apply hne
          rw [er1, er2, z]
    · have ek : k = hd := by omega
      subst ek
      rw [(hpl c1).1]
      unfold upd
      rw [if_pos rfl]
  · intro k hk1 hk2
    have hok := h7 k (by omega) hk2
    refine ok_gen hs0 (he k) (h3 k hk2).1 (fun c => ⟨hdn _ c, hvF k _ _ hk1 hk2 (h3 k hk2).2.1 (h4 k hk2).1⟩) (fun c => ⟨hdn _ c, fun c0 => hvF k _ _ hk1 hk2 ((h3 k hk2).2.2.1 c0) ((h4 k hk2).2.1 c0)⟩) (fun c3 c => ⟨hdn _ c, hvF k _ _ hk1 hk2 ((h3 k hk2).2.2.2 c3) ((h4 k hk2).2.2.2.1 c3)⟩) ?_ hok
    intro c4 c13 cA ⟨s, q1, q2, q3, q4, q5⟩
    obtain ⟨e13, e14, e15, e16, e17⟩ := he k
    obtain ⟨ck, hck, eck⟩ := aF_nI a k
    have eck : a 16 k = nI ck := cA.trans eck
    refine ⟨s, q1, e17.trans q2, ?_, ?_, ?_⟩
    · intro c
      rw [e15, e16]
      rcases Nat.lt_or_ge hd s with z | z
      · have es : s - 1 = hd := by omega
        obtain ⟨r1, r2, r3, r4⟩ := q4 z
        rw [es] at r1 r2 r3 r4
        rw [(hst r1).2]
        unfold upd
        rw [if_pos (by rw [r3])]
        exact r4
      · rw [q3 z]
        by_cases c5 : a 1 hd = 5
        · have hne := q5 hd (Nat.le_refl _) z hk1 c5
          obtain ⟨-, ⟨ch, hch, ech⟩, -⟩ := head_5 h hn hp c5
          rw [(hst c5).2]
          unfold upd
          rw [if_neg]
          rw [eck, ech, tn_nI (by omega), tn_nI (by omega)]
          intro y
          apply hne
          rw [eck, ech, y]
        · rw [(hpl c5).2]
    · intro c
      obtain ⟨r1, r2, r3, r4⟩ := q4 (by omega)
      obtain ⟨f13, f14, f15, f16, f17⟩ := he (s - 1)
      exact ⟨by rw [s1]; exact r1, f13.trans r2, by rw [f16, e16]; exact r3, by rw [e15, f15]; exact r4⟩
    · intro j j1 j2 j3 j4
      rw [s1] at j4
      rw [e16, (he j).2.2.2.1]
      exact q5 j (by omega) j2 j3 j4
/-! ===== how far the head is ===== -/
def stg (a : Nat → Nat → Int32) (hd : Nat) : Nat := if a 13 hd = 2 then 0 else if a 13 hd = 0 then 9 else tn (a 14 hd) + (if a 1 hd = 5 ∧ a 16 hd = -1 then 2 else 1)
theorem stg_le {a : Nat → Nat → Int32} {n hd : Nat} (h : Inv a n hd) (hn : hd < n) : stg a hd ≤ 9 := by
  obtain ⟨h1, h2, h3, h4, h5, h6, h7⟩ := h
  unfold stg
  by_cases c2 : a 13 hd = 2
  · rw [if_pos c2]; omega
  rw [if_neg c2]
  by_cases c0 : a 13 hd = 0
  · rw [if_pos c0]; omega
  rw [if_neg c0]
  rcases h7 hd (Nat.le_refl _) hn with ⟨q, -⟩ | ⟨-, -, ⟨t, t1, t2⟩, -⟩ | ⟨q, -⟩
  · exact absurd q c0
  · rw [t2, tn_nI (by omega)]
    split <;> omega
  · exact absurd q c2
theorem stg_pos {a : Nat → Nat → Int32} {hd : Nat} (h : a 13 hd ≠ 2) : 0 < stg a hd := by
  unfold stg
  rw [if_neg h]
  split
  · omega
  · split <;> omega
theorem stg_at {a b : Nat → Nat → Int32} {hd : Nat} (h1 : b 1 = a 1) (he : eqAt a b hd) : stg b hd = stg a hd := by
  unfold stg
  rw [he.1, he.2.1, he.2.2.2.1, h1]
end
section
/-! what each step of the queue does to the invariant -/
set_option maxRecDepth 100000
theorem self_keep {a b : Nat → Nat → Int32} {n hd k : Nat} (h : Inv a n hd) (hk2 : k < n) (hi : a 13 k ≠ 2) (hs : same9 a b) (ho : ∀ j, j < k → eqAt a b j) :
    (St a k → St b k) ∧ (St a k → a 1 k ≠ 0 → aF b k = aF a k) ∧ (dn a (a 9 k) → dn b (a 9 k) ∧ vF b (a 9 k) (a 2 k) = vF a (a 9 k) (a 2 k)) ∧ (St a k → a 1 k ≠ 4 → a 1 k ≠ 5 → pV b k = pV a k) := by
  obtain ⟨h1, h2, h3, h4, h5, h6, h7⟩ := h
  have hs0 := hs
  obtain ⟨⟨s1, s2, s3, s4, s9, s10, s11⟩, s5, s6⟩ := hs
  have hgl : ∀ g : Int32, (g = a 9 k ∨ g = a 10 k ∨ g = a 11 k) → dn a g → dn b g ∧ ∀ r, vF b g r = vF a g r := fun g hg hd => dn_keep s5 hi (fun j hj _ => ho j hj) (Nat.le_refl k) (by omega) (gv_lt h4 hk2 hg) hd
  refine ⟨fun c => ?_, fun c c0 => ?_, fun c => ?_, fun c c4 c5 => ?_⟩
  · obtain ⟨c1, c2, c3⟩ := c
    unfold St
    rw [s1, s9, s10, s11]
    exact ⟨(hgl _ (Or.inr (Or.inl rfl)) c1).1, fun z => (hgl _ (Or.inl rfl) (c2 z)).1, fun z => (hgl _ (Or.inr (Or.inr rfl)) (c3 z)).1⟩
  · unfold aF
    rw [s10, s3, s4, (hgl _ (Or.inr (Or.inl rfl)) c.1).2]
  · exact ⟨(hgl _ (Or.inl rfl) c).1, (hgl _ (Or.inl rfl) c).2 _⟩
  · exact pV_keep hs0.1 (h3 k hk2).1 c4 c5 (fun z => (hgl _ (Or.inl rfl) (c.2.1 z)).2 _) (fun _ => (hgl _ (Or.inr (Or.inl rfl)) c.1).2 _) (fun z => (hgl _ (Or.inr (Or.inr rfl)) (c.2.2 z)).2 _)
/-- what advance(k) leaves -/
def advP (σ : SX) (n hd k : Nat) (u : SX) : Prop := Inv u.2 n hd ∧ same9 σ.2 u.2 ∧ (∀ j, j ≠ 19 → u.1 j = σ.1 j) ∧ (∀ j, j < k → eqAt σ.2 u.2 j) ∧ (k = hd → σ.2 13 hd ≠ 2 → stg u.2 hd < stg σ.2 hd)
theorem stg_1 {a : Nat → Nat → Int32} {hd : Nat} (h : a 13 hd = 1) : stg a hd = tn (a 14 hd) + (if a 1 hd = 5 ∧ a 16 hd = -1 then 2 else 1) := by
  unfold stg
  rw [h, if_neg (show ¬ (1 : Int32) = 2 by decide), if_neg (show ¬ (1 : Int32) = 0 by decide)]
theorem stg_0 {a : Nat → Nat → Int32} {hd : Nat} (h : a 13 hd = 0) : stg a hd = 9 := by
  unfold stg
  rw [h, if_neg (show ¬ (0 : Int32) = 2 by decide), if_pos rfl]
theorem tr_start {a b : Nat → Nat → Int32} {n hd k t : Nat} (h : Inv a n hd) (hk1 : hd ≤ k) (hk2 : k < n) (hp : a 13 k = 0) (hS : St a k) (ht : t ≤ 3) (hs : same9 a b) (ho : ∀ j, j ≠ k → eqAt a b j) (h13 : b 13 k = 1) (h14 : b 14 k = nI t) (h16 : b 16 k = a 16 k) : Inv b n hd ∧ (k = hd → stg b hd < stg a hd) := by
  have hne : a 13 k ≠ 2 := by rw [hp]; decide
  have hc : a 16 k = -1 := by
    rcases h.2.2.2.2.2.2 k hk1 hk2 with ⟨-, q⟩ | ⟨q, -⟩ | ⟨q, -⟩
    · exact q
    · rw [hp] at q; exact absurd q (by decide)
    · rw [hp] at q; exact absurd q (by decide)
  obtain ⟨k1, k2, k3, k4⟩ := self_keep h hk2 hne hs (fun j hj => ho j (by omega))
  refine ⟨inv_upd h hk1 (l := n) hk2 (Nat.le_refl _) hne hs (fun j _ hj => ho j hj) (fun j j1 j2 => by omega) (fun _ => Or.inl h16) ?_, ?_⟩
  · exact Or.inr (Or.inl ⟨h13, k1 hS, ⟨t, ht, h14⟩, fun _ => Or.inl (h16.trans hc)⟩)
  · intro e
    subst e
    rw [stg_1 h13, stg_0 hp, h14, tn_nI (by omega)]
    split <;> omega
theorem tr_tick {a b : Nat → Nat → Int32} {n hd k t : Nat} (h : Inv a n hd) (hk1 : hd ≤ k) (hk2 : k < n) (hp : a 13 k = 1) (ht : t < 3) (hta : a 14 k = nI (t + 1)) (hs : same9 a b) (ho : ∀ j, j ≠ k → eqAt a b j) (h13 : b 13 k = a 13 k) (h14 : b 14 k = nI t) (h16 : b 16 k = a 16 k) : Inv b n hd ∧ (k = hd → stg b hd < stg a hd) := by
  have hne : a 13 k ≠ 2 := by rw [hp]; decide
  obtain ⟨k1, k2, k3, k4⟩ := self_keep h hk2 hne hs (fun j hj => ho j (by omega))
  refine ⟨inv_upd h hk1 (l := n) hk2 (Nat.le_refl _) hne hs (fun j _ hj => ho j hj) (fun j j1 j2 => by omega) (fun _ => Or.inl h16) ?_, ?_⟩
  · rcases h.2.2.2.2.2.2 k hk1 hk2 with ⟨q, -⟩ | ⟨-, q2, q3, q4⟩ | ⟨q, -⟩
    · rw [hp] at q; exact absurd q (by decide)
    · refine Or.inr (Or.inl ⟨h13.trans hp, k1 q2, ⟨t, by omega, h14⟩, ?_⟩)
      rw [hs.1.1, h16]
      intro c
      rw [k2 q2 (by rw [c]; decide)]
      exact q4 c
    · rw [hp] at q; exact absurd q (by decide)
  · intro e
    subst e
    rw [stg_1 (h13.trans hp), stg_1 hp, h14, hta, h16, hs.1.1, tn_nI (by omega), tn_nI (by omega)]
    omega
theorem stg_done {a b : Nat → Nat → Int32} {hd : Nat} (hp : a 13 hd ≠ 2) (h : b 13 hd = 2) : stg b hd < stg a hd := by
  have := stg_pos hp
  unfold stg at this ⊢
  rw [if_pos h]
  exact this
theorem tr_plain {a b : Nat → Nat → Int32} {n hd k : Nat} (h : Inv a n hd) (hk1 : hd ≤ k) (hk2 : k < n) (hp : a 13 k = 1) (c4 : a 1 k ≠ 4) (c5 : a 1 k ≠ 5) (hs : same9 a b) (ho : ∀ j, j ≠ k → eqAt a b j) (h13 : b 13 k = 2) (h15 : b 15 k = pV a k) : Inv b n hd ∧ (k = hd → stg b hd < stg a hd) := by
  have hne : a 13 k ≠ 2 := by rw [hp]; decide
  obtain ⟨k1, k2, k3, k4⟩ := self_keep h hk2 hne hs (fun j hj => ho j (by omega))
  refine ⟨inv_upd h hk1 (l := n) hk2 (Nat.le_refl _) hne hs (fun j _ hj => ho j hj) (fun j j1 j2 => by omega) (fun c => absurd c c5) ?_, fun e => by subst e; exact stg_done hne h13⟩
  rcases h.2.2.2.2.2.2 k hk1 hk2 with ⟨q, -⟩ | ⟨-, q2, q3, q4⟩ | ⟨q, -⟩
  · rw [hp] at q; exact absurd q (by decide)
  · refine Or.inr (Or.inr ⟨h13, k1 q2, ?_, ?_, ?_⟩)
    · rw [hs.1.1]; exact fun c => absurd c c5
    · rw [hs.1.1]; exact fun c => absurd c c4
    · intro _ _
      rw [h15, k4 q2 c4 c5]
  · rw [hp] at q; exact absurd q (by decide)
theorem tr_lwait {a b : Nat → Nat → Int32} {n hd k : Nat} (h : Inv a n hd) (hk1 : hd ≤ k) (hk2 : k < n) (hp : a 13 k = 1) (c4 : a 1 k = 4) (hs : same9 a b) (ho : ∀ j, j ≠ k → eqAt a b j) (h13 : b 13 k = a 13 k) (h14 : b 14 k = a 14 k) : Inv b n hd := by
  have hne : a 13 k ≠ 2 := by rw [hp]; decide
  have c5 : a 1 k ≠ 5 := by rw [c4]; decide
  obtain ⟨k1, k2, k3, k4⟩ := self_keep h hk2 hne hs (fun j hj => ho j (by omega))
  refine inv_upd h hk1 (l := n) hk2 (Nat.le_refl _) hne hs (fun j _ hj => ho j hj) (fun j j1 j2 => by omega) (fun c => absurd c c5) ?_
  rcases h.2.2.2.2.2.2 k hk1 hk2 with ⟨q, -⟩ | ⟨-, q2, ⟨t, t1, t2⟩, q4⟩ | ⟨q, -⟩
  · rw [hp] at q; exact absurd q (by decide)
  · refine Or.inr (Or.inl ⟨h13.trans hp, k1 q2, ⟨t, t1, h14.trans t2⟩, ?_⟩)
    rw [hs.1.1]; exact fun c => absurd c c5
  · rw [hp] at q; exact absurd q (by decide)
/-- the youngest older store that is known to write the cell, or none -/
def frm (a : Nat → Nat → Int32) (hd k : Nat) (cell : Int32) (f : Int32) : Prop :=
  (f = -1 ∧ ∀ j, hd ≤ j → j < k → a 1 j = 5 → a 16 j ≠ cell) ∨ (∃ j, hd ≤ j ∧ j < k ∧ f = nI j ∧ a 1 j = 5 ∧ a 16 j = cell ∧ ∀ i, j < i → i < k → a 1 i = 5 → a 16 i ≠ cell)
theorem tr_ldone {a b : Nat → Nat → Int32} {n hd k : Nat} {f : Int32} (h : Inv a n hd) (hk1 : hd ≤ k) (hk2 : k < n) (hp : a 13 k = 1) (c4 : a 1 k = 4) (hs : same9 a b) (ho : ∀ j, j ≠ k → eqAt a b j) (h13 : b 13 k = 2) (h16 : b 16 k = aF a k) (h17 : b 17 k = f) (hf : frm a hd k (aF a k) f)
    (hm : f = -1 → b 15 k = a 6 (tn (aF a k))) (hj : ∀ j, f = nI j → hd ≤ j → j < k → a 13 j = 2 ∧ b 15 k = a 15 j) : Inv b n hd ∧ (k = hd → stg b hd < stg a hd) := by
  have hne : a 13 k ≠ 2 := by rw [hp]; decide
  have c5 : a 1 k ≠ 5 := by rw [c4]; decide
  have h20 := h.2.1
  obtain ⟨k1, k2, k3, k4⟩ := self_keep h hk2 hne hs (fun j hj => ho j (by omega))
  refine ⟨inv_upd h hk1 (l := n) hk2 (Nat.le_refl _) hne hs (fun j _ hj => ho j hj) (fun j j1 j2 => by omega) (fun c => absurd c c5) ?_, fun e => by subst e; exact stg_done hne h13⟩
  rcases h.2.2.2.2.2.2 k hk1 hk2 with ⟨q, -⟩ | ⟨-, q2, q3, q4⟩ | ⟨q, -⟩
  · rw [hp] at q; exact absurd q (by decide)
  · refine Or.inr (Or.inr ⟨h13, k1 q2, ?_, ?_, ?_⟩)
    · rw [hs.1.1]; exact fun c => absurd c c5
    · intro _
      refine ⟨by rw [h16, k2 q2 (by rw [c4]; decide)], ?_⟩
      rcases hf with ⟨e, hf⟩ | ⟨j, j1, j2, e, j3, j4, j5⟩
      · refine ⟨0, Nat.zero_le _, by rw [h17, e]; decide +kernel, fun _ => ?_, fun z => absurd z (Nat.not_lt_zero _), fun i i1 _ i3 i4 => ?_⟩
        · rw [hm e, hs.2.2, h16]
        · rw [h16, (ho i (by omega)).2.2.2.1]
          rw [hs.1.1] at i4
          exact hf i i1 i3 i4
      · obtain ⟨r1, r2⟩ := hj j e j1 j2
        obtain ⟨f13, f14, f15, f16, f17⟩ := ho j (by omega)
        refine ⟨j + 1, j2, by rw [h17, e, nI_pred], fun z => by omega, fun _ => ?_, fun i i1 i2 i3 i4 => ?_⟩
        · rw [Nat.add_sub_cancel]
          exact ⟨by rw [hs.1.1]; exact j3, f13.trans r1, by rw [f16, h16]; exact j4, by rw [r2, f15]⟩
        · rw [h16, (ho i (by omega)).2.2.2.1]
          rw [hs.1.1] at i4
          exact j5 i (by omega) i3 i4
    · rw [hs.1.1]; exact fun c => absurd c4 c
  · rw [hp] at q; exact absurd q (by decide)
theorem tr_sdata {a b : Nat → Nat → Int32} {n hd k : Nat} (h : Inv a n hd) (hk1 : hd ≤ k) (hk2 : k < n) (hp : a 13 k = 1) (c5 : a 1 k = 5) (hco : ¬ a 16 k < 0) (hdn : dn a (a 9 k)) (hs : same9 a b) (ho : ∀ j, j ≠ k → eqAt a b j) (h13 : b 13 k = 2) (h15 : b 15 k = vF a (a 9 k) (a 2 k)) (h16 : b 16 k = a 16 k) : Inv b n hd ∧ (k = hd → stg b hd < stg a hd) := by
  have hne : a 13 k ≠ 2 := by rw [hp]; decide
  have c4 : a 1 k ≠ 4 := by rw [c5]; decide
  obtain ⟨k1, k2, k3, k4⟩ := self_keep h hk2 hne hs (fun j hj => ho j (by omega))
  refine ⟨inv_upd h hk1 (l := n) hk2 (Nat.le_refl _) hne hs (fun j _ hj => ho j hj) (fun j j1 j2 => by omega) (fun _ => Or.inl h16) ?_, fun e => by subst e; exact stg_done hne h13⟩
  rcases h.2.2.2.2.2.2 k hk1 hk2 with ⟨q, -⟩ | ⟨-, q2, q3, q4⟩ | ⟨q, -⟩
  · rw [hp] at q; exact absurd q (by decide)
  · refine Or.inr (Or.inr ⟨h13, k1 q2, ?_, ?_, ?_⟩)
    · intro _
      rw [hs.1.2.2.2.2.1, hs.1.2.1]
      refine ⟨(k3 hdn).1, ?_, ?_⟩
      · rw [h16, k2 q2 (by rw [c5]; decide)]
        rcases q4 c5 with z | z
        · rw [z] at hco; exact absurd m1_neg hco
        · exact z
      · rw [h15, (k3 hdn).2]
    · rw [hs.1.1]; exact fun c => absurd c c4
    · rw [hs.1.1]; exact fun _ c => absurd c5 c
  · rw [hp] at q; exact absurd q (by decide)
theorem src_lt {s k : Nat} (hs : s ≤ 20) (hk : k ≤ 20) (h : ¬ nI s - 1 < nI k) : k < s := by
  match s, hs with
  | 0, _ =>
    have h0 : nI 0 - 1 = -1 := by decide +kernel
    rw [h0] at h
    exact absurd ((Int32.lt_iff_toInt_lt).mpr (by rw [nI_toInt (by omega), show (-1 : Int32).toInt = -1 from rfl]; omega)) h
  | s + 1, _ =>
    rw [nI_pred] at h
    rcases Nat.lt_or_ge k (s + 1) with q | q
    · exact q
    · exact absurd (nI_lt (by omega) (by omega)) h
theorem tr_saddr {a b : Nat → Nat → Int32} {n hd k l : Nat} (h : Inv a n hd) (hk1 : hd ≤ k) (hkl : k < l) (hln : l ≤ n) (hp : a 13 k = 1) (c5 : a 1 k = 5) (hco : a 16 k < 0) (hs : same9 a b) (ho : ∀ j, j < l → j ≠ k → eqAt a b j) (hb : ∀ j, l ≤ j → j < n → b 13 j = 0 ∧ b 16 j = -1)
    (hm : ∀ i, k < i → i < l → ¬ (a 1 i = 4 ∧ a 13 i = 2 ∧ a 16 i = aF a k ∧ a 17 i < nI k)) (h13 : b 13 k = a 13 k) (h14 : b 14 k = a 14 k) (h16 : b 16 k = aF a k) : Inv b n hd ∧ (k = hd → stg b hd < stg a hd) := by
  have hne : a 13 k ≠ 2 := by rw [hp]; decide
  have h20 := h.2.1
  obtain ⟨k1, k2, k3, k4⟩ := self_keep h (by omega) hne hs (fun j hj => ho j (by omega) (by omega))
  rcases h.2.2.2.2.2.2 k hk1 (by omega) with ⟨q, -⟩ | ⟨-, q2, ⟨t, t1, t2⟩, q4⟩ | ⟨q, -⟩
  · rw [hp] at q; exact absurd q (by decide)
  · refine ⟨inv_upd h hk1 hkl hln hne hs ho hb (fun _ => Or.inr fun i i1 i2 i3 i4 i5 s s1 s2 => ?_) ?_, ?_⟩
    · have := hm i i1 i2
      refine src_lt (by omega) (by omega) (fun z => this ⟨i3, i4, i5.trans h16, by rw [s2]; exact z⟩)
    · refine Or.inr (Or.inl ⟨h13.trans hp, k1 q2, ⟨t, t1, h14.trans t2⟩, fun _ => Or.inr ?_⟩)
      rw [h16, k2 q2 (by rw [c5]; decide)]
    · intro e
      subst e
      have e1 : a 16 k = -1 := by
        rcases q4 c5 with z | z
        · exact z
        · obtain ⟨c, hc, ec⟩ := aF_nI a k
          rw [z, ec] at hco
          exact absurd hco (nI_pos (by omega))
      have e2 : b 16 k ≠ -1 := by
        obtain ⟨c, hc, ec⟩ := aF_nI a k
        rw [h16, ec]
        exact nI_m1 (by omega)
      rw [stg_1 (h13.trans hp), stg_1 hp, h14, hs.1.1, if_neg (fun z => e2 z.2), if_pos ⟨c5, e1⟩]
      omega
  · rw [hp] at q; exact absurd q (by decide)
/-! ===== setting back ===== -/
def sb (σ : SX) (k : Nat) : SX := sA (sA (sA σ 13 k 0) 16 k (-1)) 17 k (-1)
def sbN (σ : SX) (l : Nat) : Nat → SX
  | 0 => σ
  | m + 1 => sb (sbN σ l m) (l + m)
theorem sb_eq (σ : SX) {k j : Nat} (h : j ≠ k) : eqAt σ.2 (sb σ k).2 j := by
  refine ⟨?_, rfl, rfl, ?_, ?_⟩
  · show upd (σ.2 13) k 0 j = _
    unfold upd; rw [if_neg h]
  · show upd (σ.2 16) k (-1) j = _
    unfold upd; rw [if_neg h]
  · show upd (σ.2 17) k (-1) j = _
    unfold upd; rw [if_neg h]
theorem sb_13 (σ : SX) (k : Nat) : (sb σ k).2 13 k = 0 := by
  show upd (σ.2 13) k 0 k = _
  unfold upd; rw [if_pos rfl]
theorem sb_16 (σ : SX) (k : Nat) : (sb σ k).2 16 k = -1 := by
  show upd (σ.2 16) k (-1) k = _
  unfold upd; rw [if_pos rfl]
theorem sb_same (σ : SX) (k : Nat) : same9 σ.2 (sb σ k).2 := ⟨⟨rfl, rfl, rfl, rfl, rfl, rfl, rfl⟩, rfl, rfl⟩
theorem sbN_spec (σ : SX) (l : Nat) : ∀ m, same9 σ.2 (sbN σ l m).2 ∧ (sbN σ l m).1 = σ.1 ∧ (∀ j, j < l ∨ l + m ≤ j → eqAt σ.2 (sbN σ l m).2 j) ∧ (∀ j, l ≤ j → j < l + m → (sbN σ l m).2 13 j = 0 ∧ (sbN σ l m).2 16 j = -1) := by
  intro m
  induction m with
  | zero => exact ⟨same9.rf, rfl, fun j _ => eqAt.rf, fun j j1 j2 => by omega⟩
  | succ m ih =>
    obtain ⟨i1, i2, i3, i4⟩ := ih
    refine ⟨i1.tr (sb_same _ _), i2, fun j hj => (i3 j (by omega)).tr (sb_eq _ (by omega)), fun j j1 j2 => ?_⟩
    rcases Nat.lt_or_ge j (l + m) with q | q
    · obtain ⟨e13, e14, e15, e16, e17⟩ := sb_eq (sbN σ l m) (k := l + m) (j := j) (by omega)
      exact ⟨e13.trans (i4 j j1 q).1, e16.trans (i4 j j1 q).2⟩
    · rw [show j = l + m by omega]
      exact ⟨sb_13 _ _, sb_16 _ _⟩
theorem inv_init {a : Nat → Nat → Int32} {n : Nat} (h1 : n ≤ 20) (h2 : pg_ok a n) (h3 : gv_ok a n) (h4 : ∀ j, j < n → a 13 j = 0 ∧ a 16 j = -1) : Inv a n 0 :=
  ⟨Nat.zero_le _, h1, h2, h3, fun k hk => absurd hk (Nat.not_lt_zero _), fun k hk => absurd hk (Nat.not_lt_zero _), fun k _ hk => Or.inl (h4 k hk)⟩
end
section
set_option maxRecDepth 100000
/-- a room with no cells -/
abbrev rm (f lo : Nat) : Room := { frames := f, cells := 0, slots := 0, locals := lo }
theorem hw_u {D : va_G} {d : Nat → ClassId} {h : Nat → Nat} {A : Nat → Prop} {s : State} {H : Heap} {locs : List Loc} {σ u : SX} (hu : u = σ) (hW : XW0 D d h A s H locs u) : XW0 D d h A s H locs σ := hu ▸ hW
theorem hw_u1 {D : va_G} {d : Nat → ClassId} {h : Nat → Nat} {A : Nat → Prop} {s : State} {H : Heap} {locs : List Loc} {σ u : SX} (hu : u = σ) (hW : XW1 D d h A s H locs u) : XW1 D d h A s H locs σ := hu ▸ hW
theorem i_nlt {a b : Int32} (h : b ≤ a) : ¬ a < b := Int32.not_lt.mpr h
/-- isRegister's answer -/
def bR (r : Int32) : Int32 := if r < 0 ∨ 5 < r then 0 else 1
theorem bR_ok {r : Int32} (h : ¬ bR r = 0) : ∃ j, j < 6 ∧ r = nI j := by
  unfold bR at h
  by_cases c : r < 0 ∨ 5 < r
  · exact absurd (if_pos c) h
  · obtain ⟨j, hj, e⟩ := nI_of2 (M := 5) (n := 5) rfl (fun z => c (Or.inl z)) (Int32.not_lt.mp (fun z => c (Or.inr z)))
    exact ⟨j, by omega, e⟩
set_option maxHeartbeats 4000000 in
theorem mX0_isRegister (l : Launch) (D : va_G) (d : Nat → ClassId) (h : Nat → Nat) (σ : SX) (r : Int32)  : MXi0 l yX0_isRegister cX0_isRegister 2 (some .boolean) (rm 0 0) D d h [.int r] σ (fun v u => u = σ ∧ v = bR r) := by
  refine MXi0.mk (by decide) rfl (Nat.le_of_ble_eq_true rfl) ?_
  intro p e s m args below meth c A ls Q hQ E hr hlk hW hl
  have hx := E.1
  have hb := E.2.1
  have hl : lv_has ls 2 [(0, .ref (h 0)), (1, .int r)] := hl
  refine lv_iload_n hx hb dX0_isRegister_0 rfl (lv_at hl 1 rfl) ?_
  refine lv_if_lt (tgt := 13) hx hb dX0_isRegister_1 (by decide) (fun c1 => ?_) (fun c1 => ?_)
  · refine lv_iconst (v := 0) hx hb dX0_isRegister_13 (by decide) ?_
    exact xzret0 E hW hQ hr hlk dX0_isRegister_14 (Or.inl rfl) (⟨rfl, (if_pos (Or.inl c1)).symm⟩)
  · refine lv_iload_n hx hb dX0_isRegister_4 rfl (lv_at hl 1 rfl) ?_
    refine lv_iconst (v := 5) hx hb dX0_isRegister_5 (by decide) ?_
    refine lv_icmp_gt (tgt := 13) hx hb dX0_isRegister_6 (by decide) (fun c6 => ?_) (fun c6 => ?_)
    · refine lv_iconst (v := 0) hx hb dX0_isRegister_13 (by decide) ?_
      exact xzret0 E hW hQ hr hlk dX0_isRegister_14 (Or.inl rfl) (⟨rfl, (if_pos (Or.inr c6)).symm⟩)
    · refine lv_iconst (v := 1) hx hb dX0_isRegister_9 (by decide) ?_
      refine lv_goto (tgt := 14) hx hb dX0_isRegister_10 (by decide) ?_
      exact xzret0 E hW hQ hr hlk dX0_isRegister_14 (Or.inr rfl) (⟨rfl, (if_neg (fun z => z.elim c1 c6)).symm⟩)
set_option maxHeartbeats 4000000 in
theorem mX1_isRegister (l : Launch) (D : va_G) (d : Nat → ClassId) (h : Nat → Nat) (σ : SX) (r : Int32)  : MXi1 l yX1_isRegister cX1_isRegister 2 (some .boolean) (rm 0 0) D d h [.int r] σ (fun v u => u = σ ∧ v = bR r) := by
  refine MXi1.mk (by decide) rfl (Nat.le_of_ble_eq_true rfl) ?_
  intro p e s m args below meth c A ls Q hQ E hr hlk hW hl
  have hx := E.1
  have hb := E.2.1
  have hl : lv_has ls 2 [(0, .ref (h 0)), (1, .int r)] := hl
  refine lv_iload_n hx hb dX1_isRegister_0 rfl (lv_at hl 1 rfl) ?_
  refine lv_if_lt (tgt := 13) hx hb dX1_isRegister_1 (by decide) (fun c1 => ?_) (fun c1 => ?_)
  · refine lv_iconst (v := 0) hx hb dX1_isRegister_13 (by decide) ?_
    exact xzret1 E hW hQ hr hlk dX1_isRegister_14 (Or.inl rfl) (⟨rfl, (if_pos (Or.inl c1)).symm⟩)
  · refine lv_iload_n hx hb dX1_isRegister_4 rfl (lv_at hl 1 rfl) ?_
    refine lv_iconst (v := 5) hx hb dX1_isRegister_5 (by decide) ?_
    refine lv_icmp_gt (tgt := 13) hx hb dX1_isRegister_6 (by decide) (fun c6 => ?_) (fun c6 => ?_)
    · refine lv_iconst (v := 0) hx hb dX1_isRegister_13 (by decide) ?_
      exact xzret1 E hW hQ hr hlk dX1_isRegister_14 (Or.inl rfl) (⟨rfl, (if_pos (Or.inr c6)).symm⟩)
    · refine lv_iconst (v := 1) hx hb dX1_isRegister_9 (by decide) ?_
      refine lv_goto (tgt := 14) hx hb dX1_isRegister_10 (by decide) ?_
      exact xzret1 E hW hQ hr hlk dX1_isRegister_14 (Or.inr rfl) (⟨rfl, (if_neg (fun z => z.elim c1 c6)).symm⟩)
set_option maxHeartbeats 4000000 in
theorem mX0_hasThree (l : Launch) (D : va_G) (d : Nat → ClassId) (h : Nat → Nat) (σ : SX) {k : Nat} (hk : k < 20) : MXi0 l yX0_hasThree cX0_hasThree 2 (some .boolean) (rm 0 0) D d h [.int (nI k)] σ (fun v u => u = σ ∧ ((v = 1 ∧ thr (σ.2 1 k)) ∨ (v = 0 ∧ ¬ thr (σ.2 1 k)))) := by
  refine MXi0.mk (by decide) rfl (Nat.le_of_ble_eq_true rfl) ?_
  intro p e s m args below meth c A ls Q hQ E hr hlk hW hl
  have hx := E.1
  have hb := E.2.1
  have hl : lv_has ls 2 [(0, .ref (h 0)), (1, .int (nI k))] := hl
  refine lv_aload_n hx hb dX0_hasThree_0 rfl (lv_at hl 0 rfl) ?_
  refine xg0_opcode E hW dX0_hasThree_1 ?_
  refine lv_iload_n hx hb dX0_hasThree_4 rfl (lv_at hl 1 rfl) ?_
  refine xl0_opcode E hW rfl hk dX0_hasThree_5 ?_
  refine lv_bipush (v := 6) hx hb dX0_hasThree_6 (by decide) ?_
  refine lv_icmp_eq (tgt := 31) hx hb dX0_hasThree_8 (by decide) (fun c8 => ?_) (fun c8 => ?_)
  · refine lv_iconst (v := 1) hx hb dX0_hasThree_31 (by decide) ?_
    refine lv_goto (tgt := 36) hx hb dX0_hasThree_32 (by decide) ?_
    exact xzret0 E hW hQ hr hlk dX0_hasThree_36 (Or.inr rfl) (⟨rfl, Or.inl ⟨rfl, Or.inl c8⟩⟩)
  · refine lv_aload_n hx hb dX0_hasThree_11 rfl (lv_at hl 0 rfl) ?_
    refine xg0_opcode E hW dX0_hasThree_12 ?_
    refine lv_iload_n hx hb dX0_hasThree_15 rfl (lv_at hl 1 rfl) ?_
    refine xl0_opcode E hW rfl hk dX0_hasThree_16 ?_
    refine lv_iconst (v := 1) hx hb dX0_hasThree_17 (by decide) ?_
    refine lv_icmp_lt (tgt := 35) hx hb dX0_hasThree_18 (by decide) (fun c18 => ?_) (fun c18 => ?_)
    · refine lv_iconst (v := 0) hx hb dX0_hasThree_35 (by decide) ?_
      exact xzret0 E hW hQ hr hlk dX0_hasThree_36 (Or.inl rfl) (⟨rfl, Or.inr ⟨rfl, fun z => z.elim c8 (fun y => y.1 c18)⟩⟩)
    · refine lv_aload_n hx hb dX0_hasThree_21 rfl (lv_at hl 0 rfl) ?_
      refine xg0_opcode E hW dX0_hasThree_22 ?_
      refine lv_iload_n hx hb dX0_hasThree_25 rfl (lv_at hl 1 rfl) ?_
      refine xl0_opcode E hW rfl hk dX0_hasThree_26 ?_
      refine lv_iconst (v := 3) hx hb dX0_hasThree_27 (by decide) ?_
      refine lv_icmp_gt (tgt := 35) hx hb dX0_hasThree_28 (by decide) (fun c28 => ?_) (fun c28 => ?_)
      · refine lv_iconst (v := 0) hx hb dX0_hasThree_35 (by decide) ?_
        exact xzret0 E hW hQ hr hlk dX0_hasThree_36 (Or.inl rfl) (⟨rfl, Or.inr ⟨rfl, fun z => z.elim c8 (fun y => y.2 c28)⟩⟩)
      · refine lv_iconst (v := 1) hx hb dX0_hasThree_31 (by decide) ?_
        refine lv_goto (tgt := 36) hx hb dX0_hasThree_32 (by decide) ?_
        exact xzret0 E hW hQ hr hlk dX0_hasThree_36 (Or.inr rfl) (⟨rfl, Or.inl ⟨rfl, Or.inr ⟨c18, c28⟩⟩⟩)
set_option maxHeartbeats 4000000 in
theorem mX0_isThere (l : Launch) (D : va_G) (d : Nat → ClassId) (h : Nat → Nat) (σ : SX) {g : Int32} (hg : g < 0 ∨ ∃ j, j < 20 ∧ g = nI j) : MXi0 l yX0_isThere cX0_isThere 2 (some .boolean) (rm 0 0) D d h [.int g] σ (fun v u => u = σ ∧ ((v = 1 ∧ dn σ.2 g) ∨ (v = 0 ∧ ¬ dn σ.2 g))) := by
  refine MXi0.mk (by decide) rfl (Nat.le_of_ble_eq_true rfl) ?_
  intro p e s m args below meth c A ls Q hQ E hr hlk hW hl
  have hx := E.1
  have hb := E.2.1
  have hl : lv_has ls 2 [(0, .ref (h 0)), (1, .int g)] := hl
  refine lv_iload_n hx hb dX0_isThere_0 rfl (lv_at hl 1 rfl) ?_
  refine lv_if_lt (tgt := 14) hx hb dX0_isThere_1 (by decide) (fun c1 => ?_) (fun c1 => ?_)
  · refine lv_iconst (v := 1) hx hb dX0_isThere_14 (by decide) ?_
    refine lv_goto (tgt := 19) hx hb dX0_isThere_15 (by decide) ?_
    exact xzret0 E hW hQ hr hlk dX0_isThere_19 (Or.inr rfl) (⟨rfl, Or.inl ⟨rfl, Or.inl c1⟩⟩)
  · obtain ⟨j, hj, ej⟩ := hg.resolve_left c1
    have et : tn g = j := by rw [ej]; exact tn_nI (by omega)
    refine lv_aload_n hx hb dX0_isThere_4 rfl (lv_at hl 0 rfl) ?_
    refine xg0_progress E hW dX0_isThere_5 ?_
    refine lv_iload_n hx hb dX0_isThere_8 rfl (lv_at hl 1 rfl) ?_
    refine xl0_progress E hW ej hj dX0_isThere_9 ?_
    refine lv_iconst (v := 2) hx hb dX0_isThere_10 (by decide) ?_
    refine lv_icmp_ne (tgt := 18) hx hb dX0_isThere_11 (by decide) (fun c11 => ?_) (fun c11 => ?_)
    · refine lv_iconst (v := 0) hx hb dX0_isThere_18 (by decide) ?_
      exact xzret0 E hW hQ hr hlk dX0_isThere_19 (Or.inl rfl) (⟨rfl, Or.inr ⟨rfl, fun z => z.elim c1 (fun y => c11 (by rw [et] at y; exact y))⟩⟩)
    · refine lv_iconst (v := 1) hx hb dX0_isThere_14 (by decide) ?_
      refine lv_goto (tgt := 19) hx hb dX0_isThere_15 (by decide) ?_
      exact xzret0 E hW hQ hr hlk dX0_isThere_19 (Or.inr rfl) (⟨rfl, Or.inl ⟨rfl, Or.inr (by rw [et]; exact c11)⟩⟩)
set_option maxHeartbeats 4000000 in
theorem mX0_valueFrom (l : Launch) (D : va_G) (d : Nat → ClassId) (h : Nat → Nat) (σ : SX) {g r : Int32} (hg : (g < 0 ∧ ∃ j, j < 6 ∧ r = nI j) ∨ ∃ j, j < 20 ∧ g = nI j) : MXi0 l yX0_valueFrom cX0_valueFrom 3 (some .int) (rm 0 0) D d h [.int g, .int r] σ (fun v u => u = σ ∧ v = vF σ.2 g r) := by
  refine MXi0.mk (by decide) rfl (Nat.le_of_ble_eq_true rfl) ?_
  intro p e s m args below meth c A ls Q hQ E hr hlk hW hl
  have hx := E.1
  have hb := E.2.1
  have hl : lv_has ls 3 [(0, .ref (h 0)), (1, .int g), (2, .int r)] := hl
  refine lv_iload_n hx hb dX0_valueFrom_0 rfl (lv_at hl 1 rfl) ?_
  refine lv_if_ge (tgt := 13) hx hb dX0_valueFrom_1 (by decide) (fun c1 => ?_) (fun c1 => ?_)
  · obtain ⟨j, hj, ej⟩ := hg.resolve_left (fun z => i_nlt c1 z.1)
    have et : tn g = j := by rw [ej]; exact tn_nI (by omega)
    refine lv_aload_n hx hb dX0_valueFrom_13 rfl (lv_at hl 0 rfl) ?_
    refine xg0_result E hW dX0_valueFrom_14 ?_
    refine lv_iload_n hx hb dX0_valueFrom_17 rfl (lv_at hl 1 rfl) ?_
    refine xl0_result E hW ej hj dX0_valueFrom_18 ?_
    exact xiret0 E hW hQ hr hlk dX0_valueFrom_19 (⟨rfl, by unfold vF; rw [if_neg (i_nlt c1), et]⟩)
  · have c1 : g < 0 := Int32.not_le.mp c1
    obtain ⟨j, hj, ej⟩ : ∃ j, j < 6 ∧ r = nI j := by
      rcases hg with z | ⟨j, hj, ej⟩
      · exact z.2
      · rw [ej] at c1; exact absurd c1 (nI_pos (by omega))
    have et : tn r = j := by rw [ej]; exact tn_nI (by omega)
    refine lv_aload_n hx hb dX0_valueFrom_4 rfl (lv_at hl 0 rfl) ?_
    refine xg0_registers E hW dX0_valueFrom_5 ?_
    refine lv_iload_n hx hb dX0_valueFrom_8 rfl (lv_at hl 2 rfl) ?_
    refine xl0_registers E hW ej hj dX0_valueFrom_9 ?_
    refine lv_goto (tgt := 19) hx hb dX0_valueFrom_10 (by decide) ?_
    exact xiret0 E hW hQ hr hlk dX0_valueFrom_19 (⟨rfl, by unfold vF; rw [if_pos c1, et]⟩)
set_option maxHeartbeats 4000000 in
theorem mX0_roll (l : Launch) (D : va_G) (d : Nat → ClassId) (h : Nat → Nat) (σ : SX) {t : Nat} (ht : 0 < t) (ht2 : t < 100) : MXi0 l yX0_roll cX0_roll 2 (some .int) (rm 0 0) D d h [.int (nI t)] σ (fun v u => (∃ cc, u = sI σ 19 cc) ∧ ∃ j, j < t ∧ v = nI j) := by
  refine MXi0.mk (by decide) rfl (Nat.le_of_ble_eq_true rfl) ?_
  intro p e s m args below meth c A ls Q hQ E hr hlk hW hl
  have hx := E.1
  have hb := E.2.1
  have hl : lv_has ls 2 [(0, .ref (h 0)), (1, .int (nI t))] := hl
  have hown := E.2.2.2.1
  have hts := E.2.2.2.2.1
  refine lv_aload_n hx hb dX0_roll_0 rfl (lv_at hl 0 rfl) ?_
  refine lv_aload_n hx hb dX0_roll_1 rfl (lv_at hl 0 rfl) ?_
  refine xg0_chance E hW dX0_roll_2 ?_
  refine lv_ldc hx hb hown (hts _ q132) dX0_roll_5 ?_
  refine lv_imul hx hb dX0_roll_7 ?_
  refine lv_sipush (v := 12345) hx hb dX0_roll_8 (by decide) ?_
  refine lv_iadd hx hb dX0_roll_11 ?_
  refine xp0_chance E hW dX0_roll_12 (fun H locs hW => ?_)
  refine lv_aload_n hx hb dX0_roll_15 rfl (lv_at hl 0 rfl) ?_
  refine xg0_chance E hW dX0_roll_16 ?_
  refine lv_bipush (v := 16) hx hb dX0_roll_19 (by decide) ?_
  refine lv_iushr hx hb dX0_roll_21 rfl ?_
  refine lv_sipush (v := 1023) hx hb dX0_roll_22 (by decide) ?_
  refine lv_iand hx hb dX0_roll_25 ?_
  refine lv_topi (fun x ex => ?_)
  obtain ⟨a, ha, ea⟩ : ∃ a, a < 2 ^ 10 ∧ x = nI a := by rw [ex]; exact pk_andE _ (m := 1023) 10 rfl
  subst ea
  refine lv_iload_n hx hb dX0_roll_26 rfl (lv_at hl 1 rfl) ?_
  refine lv_irem hx hb dX0_roll_27 (nI_ne0 ht (by omega)) ?_
  exact xiret0 E hW hQ hr hlk dX0_roll_28 (⟨⟨_, rfl⟩, a % t, Nat.mod_lt _ ht, pk_rem (by omega) ht (by omega)⟩)
set_option maxHeartbeats 4000000 in
theorem mX0_setBack (l : Launch) (D : va_G) (d : Nat → ClassId) (h : Nat → Nat) (σ : SX) {k : Nat} (hk : k < 20) : MXv0 l yX0_setBack cX0_setBack 2 (rm 0 0) D d h [.int (nI k)] σ (fun u => u = sb σ k) := by
  refine MXv0.mk (by decide) rfl (Nat.le_of_ble_eq_true rfl) ?_
  intro p e s m args below meth c A ls Q hQ E hr hlk hW hl
  have hx := E.1
  have hb := E.2.1
  have hl : lv_has ls 2 [(0, .ref (h 0)), (1, .int (nI k))] := hl
  refine lv_aload_n hx hb dX0_setBack_0 rfl (lv_at hl 0 rfl) ?_
  refine xg0_progress E hW dX0_setBack_1 ?_
  refine lv_iload_n hx hb dX0_setBack_4 rfl (lv_at hl 1 rfl) ?_
  refine lv_iconst (v := 0) hx hb dX0_setBack_5 (by decide) ?_
  refine xs0_progress E hW rfl hk (nb8 (k := 0) (by decide)) dX0_setBack_6 (fun H locs hW => ?_)
  refine lv_aload_n hx hb dX0_setBack_7 rfl (lv_at hl 0 rfl) ?_
  refine xg0_cellOf E hW dX0_setBack_8 ?_
  refine lv_iload_n hx hb dX0_setBack_11 rfl (lv_at hl 1 rfl) ?_
  refine lv_iconst (v := (-1)) hx hb dX0_setBack_12 (by decide) ?_
  refine xs0_cellOf E hW rfl hk nb8m dX0_setBack_13 (fun H locs hW => ?_)
  refine lv_aload_n hx hb dX0_setBack_14 rfl (lv_at hl 0 rfl) ?_
  refine xg0_source E hW dX0_setBack_15 ?_
  refine lv_iload_n hx hb dX0_setBack_18 rfl (lv_at hl 1 rfl) ?_
  refine lv_iconst (v := (-1)) hx hb dX0_setBack_19 (by decide) ?_
  refine xs0_source E hW rfl hk nb8m dX0_setBack_20 (fun H locs hW => ?_)
  exact xvret0 E hW hQ hr hlk dX0_setBack_21 (rfl)
set_option maxHeartbeats 4000000 in
theorem mX0_fed (l : Launch) (D : va_G) (d : Nat → ClassId) (h : Nat → Nat) (σ : SX)  : MXi0 l yX0_fed cX0_fed 1 (some .int) (rm 0 0) D d h [] σ (fun v u => u = σ ∧ v = σ.1 7) := by
  refine MXi0.mk (by decide) rfl (Nat.le_of_ble_eq_true rfl) ?_
  intro p e s m args below meth c A ls Q hQ E hr hlk hW hl
  have hx := E.1
  have hb := E.2.1
  have hl : lv_has ls 1 [(0, .ref (h 0))] := hl
  refine lv_aload_n hx hb dX0_fed_0 rfl (lv_at hl 0 rfl) ?_
  refine xg0_fedCount E hW dX0_fed_1 ?_
  exact xiret0 E hW hQ hr hlk dX0_fed_4 (⟨rfl, rfl⟩)
set_option maxHeartbeats 4000000 in
theorem mX0_drop (l : Launch) (D : va_G) (d : Nat → ClassId) (h : Nat → Nat) (σ : SX)  : MXi0 l yX0_drop cX0_drop 2 (some .int) (rm 0 0) D d h [] σ (fun v u => u = sI σ 0 0 ∧ v = σ.1 0) := by
  refine MXi0.mk (by decide) rfl (Nat.le_of_ble_eq_true rfl) ?_
  intro p e s m args below meth c A ls Q hQ E hr hlk hW hl
  have hx := E.1
  have hb := E.2.1
  have hl : lv_has ls 2 [(0, .ref (h 0))] := hl
  refine lv_aload_n hx hb dX0_drop_0 rfl (lv_at hl 0 rfl) ?_
  refine xg0_length E hW dX0_drop_1 ?_
  refine lv_istore_n (lv' := [(1, .int _), (0, .ref _)]) hx hb dX0_drop_4 rfl hl (by decide) rfl (fun ls hl => ?_)
  refine lv_aload_n hx hb dX0_drop_5 rfl (lv_at hl 1 rfl) ?_
  refine lv_iconst (v := 0) hx hb dX0_drop_6 (by decide) ?_
  refine xp0_length E hW dX0_drop_7 (fun H locs hW => ?_)
  refine lv_iload_n hx hb dX0_drop_10 rfl (lv_at hl 0 rfl) ?_
  exact xiret0 E hW hQ hr hlk dX0_drop_11 (⟨rfl, rfl⟩)
set_option maxHeartbeats 4000000 in
theorem mX0_retract (l : Launch) (D : va_G) (d : Nat → ClassId) (h : Nat → Nat) (σ : SX)  : MXi0 l yX0_retract cX0_retract 1 (some .int) (rm 0 0) D d h [] σ (fun v u => (σ.1 0 = 0 ∧ v = -1 ∧ u = σ) ∨ (σ.1 0 ≠ 0 ∧ v = σ.1 0 - 1 ∧ u = sI σ 0 (σ.1 0 - 1))) := by
  refine MXi0.mk (by decide) rfl (Nat.le_of_ble_eq_true rfl) ?_
  intro p e s m args below meth c A ls Q hQ E hr hlk hW hl
  have hx := E.1
  have hb := E.2.1
  have hl : lv_has ls 1 [(0, .ref (h 0))] := hl
  refine lv_aload_n hx hb dX0_retract_0 rfl (lv_at hl 0 rfl) ?_
  refine xg0_length E hW dX0_retract_1 ?_
  refine lv_if_ne (tgt := 9) hx hb dX0_retract_4 (by decide) (fun c4 => ?_) (fun c4 => ?_)
  · refine lv_aload_n hx hb dX0_retract_9 rfl (lv_at hl 0 rfl) ?_
    refine lv_dup hx hb dX0_retract_10 rfl ?_
    refine xg0_length E hW dX0_retract_11 ?_
    refine lv_iconst (v := 1) hx hb dX0_retract_14 (by decide) ?_
    refine lv_isub hx hb dX0_retract_15 ?_
    refine xp0_length E hW dX0_retract_16 (fun H locs hW => ?_)
    refine lv_aload_n hx hb dX0_retract_19 rfl (lv_at hl 0 rfl) ?_
    refine xg0_length E hW dX0_retract_20 ?_
    exact xiret0 E hW hQ hr hlk dX0_retract_23 (Or.inr ⟨c4, rfl, rfl⟩)
  · refine lv_iconst (v := (-1)) hx hb dX0_retract_7 (by decide) ?_
    exact xiret0 E hW hQ hr hlk dX0_retract_8 (Or.inl ⟨c4, rfl, rfl⟩)
set_option maxHeartbeats 4000000 in
theorem mX0_register (l : Launch) (D : va_G) (d : Nat → ClassId) (h : Nat → Nat) (σ : SX) (r : Int32)  : MXi0 l yX0_register cX0_register 2 (some .int) (rm 1 21) D d h [.int r] σ (fun v u => u = σ ∧ v = if bR r = 0 then 0 else σ.2 5 (tn r)) := by
  refine MXi0.mk (by decide) rfl (Nat.le_of_ble_eq_true rfl) ?_
  intro p e s m args below meth c A ls Q hQ E hr hlk hW hl
  have hx := E.1
  have hb := E.2.1
  have hl : lv_has ls 2 [(0, .ref (h 0)), (1, .int r)] := hl
  refine lv_aload_n hx hb dX0_register_0 rfl (lv_at hl 0 rfl) ?_
  refine lv_iload_n hx hb dX0_register_1 rfl (lv_at hl 1 rfl) ?_
  refine xci0 (n := 1) (mX0_isRegister l D d h σ r) E hW (lw_V q96 q98 qs0 q19 q99) ⟨rfl, rfl⟩ (by decide +kernel) ⟨Nat.le_of_ble_eq_true rfl, Nat.le_of_ble_eq_true rfl⟩ rfl hl.1 rfl (Nat.le_of_ble_eq_true rfl) dX0_register_2 (fun r u H locs hp hW => ?_)
  obtain ⟨hu, er⟩ := hp
  have hW := hw_u hu hW
  subst er
  refine lv_if_eq (tgt := 17) hx hb dX0_register_5 (by decide) (fun c5 => ?_) (fun c5 => ?_)
  · refine lv_iconst (v := 0) hx hb dX0_register_17 (by decide) ?_
    exact xiret0 E hW hQ hr hlk dX0_register_18 (⟨rfl, by rw [if_pos c5]⟩)
  · obtain ⟨j, hj, ej⟩ := bR_ok c5
    have et : tn r = j := by rw [ej]; exact tn_nI (by omega)
    refine lv_aload_n hx hb dX0_register_8 rfl (lv_at hl 0 rfl) ?_
    refine xg0_registers E hW dX0_register_9 ?_
    refine lv_iload_n hx hb dX0_register_12 rfl (lv_at hl 1 rfl) ?_
    refine xl0_registers E hW ej hj dX0_register_13 ?_
    refine lv_goto (tgt := 18) hx hb dX0_register_14 (by decide) ?_
    exact xiret0 E hW hQ hr hlk dX0_register_18 (⟨rfl, by rw [if_neg c5, et]⟩)
set_option maxHeartbeats 4000000 in
theorem mX0_setRegister (l : Launch) (D : va_G) (d : Nat → ClassId) (h : Nat → Nat) (σ : SX) (r x : Int32)  : MXi0 l yX0_setRegister cX0_setRegister 3 (some .boolean) (rm 1 21) D d h [.int r, .int x] σ (fun v u => (bR r = 0 ∧ v = 0 ∧ u = σ) ∨ (¬ bR r = 0 ∧ v = 1 ∧ u = sA σ 5 (tn r) x)) := by
  refine MXi0.mk (by decide) rfl (Nat.le_of_ble_eq_true rfl) ?_
  intro p e s m args below meth c A ls Q hQ E hr hlk hW hl
  have hx := E.1
  have hb := E.2.1
  have hl : lv_has ls 3 [(0, .ref (h 0)), (1, .int r), (2, .int x)] := hl
  refine lv_aload_n hx hb dX0_setRegister_0 rfl (lv_at hl 0 rfl) ?_
  refine lv_iload_n hx hb dX0_setRegister_1 rfl (lv_at hl 1 rfl) ?_
  refine xci0 (n := 1) (mX0_isRegister l D d h σ r) E hW (lw_V q96 q98 qs0 q19 q99) ⟨rfl, rfl⟩ (by decide +kernel) ⟨Nat.le_of_ble_eq_true rfl, Nat.le_of_ble_eq_true rfl⟩ rfl hl.1 rfl (Nat.le_of_ble_eq_true rfl) dX0_setRegister_2 (fun r u H locs hp hW => ?_)
  obtain ⟨hu, er⟩ := hp
  have hW := hw_u hu hW
  subst er
  refine lv_if_ne (tgt := 10) hx hb dX0_setRegister_5 (by decide) (fun c5 => ?_) (fun c5 => ?_)
  · obtain ⟨j, hj, ej⟩ := bR_ok c5
    have et : tn r = j := by rw [ej]; exact tn_nI (by omega)
    refine lv_aload_n hx hb dX0_setRegister_10 rfl (lv_at hl 0 rfl) ?_
    refine xg0_registers E hW dX0_setRegister_11 ?_
    refine lv_iload_n hx hb dX0_setRegister_14 rfl (lv_at hl 1 rfl) ?_
    refine lv_iload_n hx hb dX0_setRegister_15 rfl (lv_at hl 2 rfl) ?_
    refine xs0_registers E hW ej hj dX0_setRegister_16 (fun H locs hW => ?_)
    refine lv_iconst (v := 1) hx hb dX0_setRegister_17 (by decide) ?_
    exact xzret0 E hW hQ hr hlk dX0_setRegister_18 (Or.inr rfl) (Or.inr ⟨c5, rfl, by rw [et]⟩)
  · refine lv_iconst (v := 0) hx hb dX0_setRegister_8 (by decide) ?_
    exact xzret0 E hW hQ hr hlk dX0_setRegister_9 (Or.inl rfl) (Or.inl ⟨c5, rfl, rfl⟩)
set_option maxHeartbeats 4000000 in
theorem mX0_memory (l : Launch) (D : va_G) (d : Nat → ClassId) (h : Nat → Nat) (σ : SX) (r : Int32)  : MXi0 l yX0_memory cX0_memory 2 (some .int) (rm 0 0) D d h [.int r] σ (fun v u => u = σ ∧ v = if r < 0 ∨ 15 < r then 0 else σ.2 6 (tn r)) := by
  refine MXi0.mk (by decide) rfl (Nat.le_of_ble_eq_true rfl) ?_
  intro p e s m args below meth c A ls Q hQ E hr hlk hW hl
  have hx := E.1
  have hb := E.2.1
  have hl : lv_has ls 2 [(0, .ref (h 0)), (1, .int r)] := hl
  refine lv_iload_n hx hb dX0_memory_0 rfl (lv_at hl 1 rfl) ?_
  refine lv_if_lt (tgt := 10) hx hb dX0_memory_1 (by decide) (fun c1 => ?_) (fun c1 => ?_)
  · refine lv_iconst (v := 0) hx hb dX0_memory_10 (by decide) ?_
    refine lv_goto (tgt := 20) hx hb dX0_memory_11 (by decide) ?_
    exact xiret0 E hW hQ hr hlk dX0_memory_20 (⟨rfl, by rw [if_pos (Or.inl c1)]⟩)
  · refine lv_iload_n hx hb dX0_memory_4 rfl (lv_at hl 1 rfl) ?_
    refine lv_bipush (v := 15) hx hb dX0_memory_5 (by decide) ?_
    refine lv_icmp_le (tgt := 14) hx hb dX0_memory_7 (by decide) (fun c7 => ?_) (fun c7 => ?_)
    · obtain ⟨j, hj, ej⟩ := nI_of2 (M := 15) (n := 15) rfl c1 (c7)
      have et : tn r = j := by rw [ej]; exact tn_nI (by omega)
      refine lv_aload_n hx hb dX0_memory_14 rfl (lv_at hl 0 rfl) ?_
      refine xg0_cells E hW dX0_memory_15 ?_
      refine lv_iload_n hx hb dX0_memory_18 rfl (lv_at hl 1 rfl) ?_
      refine xl0_cells E hW ej (by omega) dX0_memory_19 ?_
      exact xiret0 E hW hQ hr hlk dX0_memory_20 (⟨rfl, by rw [if_neg (fun z => z.elim c1 (fun y => i_nlt c7 y)), et]⟩)
    · refine lv_iconst (v := 0) hx hb dX0_memory_10 (by decide) ?_
      refine lv_goto (tgt := 20) hx hb dX0_memory_11 (by decide) ?_
      exact xiret0 E hW hQ hr hlk dX0_memory_20 (⟨rfl, by rw [if_pos (Or.inr (Int32.not_le.mp c7))]⟩)
set_option maxHeartbeats 4000000 in
theorem mX0_setMemory (l : Launch) (D : va_G) (d : Nat → ClassId) (h : Nat → Nat) (σ : SX) (r x : Int32)  : MXi0 l yX0_setMemory cX0_setMemory 3 (some .boolean) (rm 0 0) D d h [.int r, .int x] σ (fun v u => ((r < 0 ∨ 15 < r) ∧ v = 0 ∧ u = σ) ∨ (¬ (r < 0 ∨ 15 < r) ∧ v = 1 ∧ u = sA σ 6 (tn r) x)) := by
  refine MXi0.mk (by decide) rfl (Nat.le_of_ble_eq_true rfl) ?_
  intro p e s m args below meth c A ls Q hQ E hr hlk hW hl
  have hx := E.1
  have hb := E.2.1
  have hl : lv_has ls 3 [(0, .ref (h 0)), (1, .int r), (2, .int x)] := hl
  refine lv_iload_n hx hb dX0_setMemory_0 rfl (lv_at hl 1 rfl) ?_
  refine lv_if_lt (tgt := 10) hx hb dX0_setMemory_1 (by decide) (fun c1 => ?_) (fun c1 => ?_)
  · refine lv_iconst (v := 0) hx hb dX0_setMemory_10 (by decide) ?_
    exact xzret0 E hW hQ hr hlk dX0_setMemory_11 (Or.inl rfl) (Or.inl ⟨Or.inl c1, rfl, rfl⟩)
  · refine lv_iload_n hx hb dX0_setMemory_4 rfl (lv_at hl 1 rfl) ?_
    refine lv_bipush (v := 15) hx hb dX0_setMemory_5 (by decide) ?_
    refine lv_icmp_le (tgt := 12) hx hb dX0_setMemory_7 (by decide) (fun c7 => ?_) (fun c7 => ?_)
    · obtain ⟨j, hj, ej⟩ := nI_of2 (M := 15) (n := 15) rfl c1 (c7)
      have et : tn r = j := by rw [ej]; exact tn_nI (by omega)
      refine lv_aload_n hx hb dX0_setMemory_12 rfl (lv_at hl 0 rfl) ?_
      refine xg0_cells E hW dX0_setMemory_13 ?_
      refine lv_iload_n hx hb dX0_setMemory_16 rfl (lv_at hl 1 rfl) ?_
      refine lv_iload_n hx hb dX0_setMemory_17 rfl (lv_at hl 2 rfl) ?_
      refine xs0_cells E hW ej (by omega) dX0_setMemory_18 (fun H locs hW => ?_)
      refine lv_iconst (v := 1) hx hb dX0_setMemory_19 (by decide) ?_
      exact xzret0 E hW hQ hr hlk dX0_setMemory_20 (Or.inr rfl) (Or.inr ⟨fun z => z.elim c1 (fun y => i_nlt c7 y), rfl, by rw [et]⟩)
    · refine lv_iconst (v := 0) hx hb dX0_setMemory_10 (by decide) ?_
      exact xzret0 E hW hQ hr hlk dX0_setMemory_11 (Or.inl rfl) (Or.inl ⟨Or.inr (Int32.not_le.mp c7), rfl, rfl⟩)
set_option maxHeartbeats 4000000 in
theorem mX1_fed (l : Launch) (D : va_G) (d : Nat → ClassId) (h : Nat → Nat) (σ : SX)  : MXi1 l yX1_fed cX1_fed 1 (some .int) (rm 0 0) D d h [] σ (fun v u => u = σ ∧ v = σ.1 7) := by
  refine MXi1.mk (by decide) rfl (Nat.le_of_ble_eq_true rfl) ?_
  intro p e s m args below meth c A ls Q hQ E hr hlk hW hl
  have hx := E.1
  have hb := E.2.1
  have hl : lv_has ls 1 [(0, .ref (h 0))] := hl
  refine lv_aload_n hx hb dX1_fed_0 rfl (lv_at hl 0 rfl) ?_
  refine xg1_fed E hW dX1_fed_1 ?_
  exact xiret1 E hW hQ hr hlk dX1_fed_4 (⟨rfl, rfl⟩)
set_option maxHeartbeats 4000000 in
theorem mX1_drop (l : Launch) (D : va_G) (d : Nat → ClassId) (h : Nat → Nat) (σ : SX)  : MXi1 l yX1_drop cX1_drop 2 (some .int) (rm 0 0) D d h [] σ (fun v u => u = sI σ 0 0 ∧ v = σ.1 0) := by
  refine MXi1.mk (by decide) rfl (Nat.le_of_ble_eq_true rfl) ?_
  intro p e s m args below meth c A ls Q hQ E hr hlk hW hl
  have hx := E.1
  have hb := E.2.1
  have hl : lv_has ls 2 [(0, .ref (h 0))] := hl
  refine lv_aload_n hx hb dX1_drop_0 rfl (lv_at hl 0 rfl) ?_
  refine xg1_n E hW dX1_drop_1 ?_
  refine lv_istore_n (lv' := [(1, .int _), (0, .ref _)]) hx hb dX1_drop_4 rfl hl (by decide) rfl (fun ls hl => ?_)
  refine lv_aload_n hx hb dX1_drop_5 rfl (lv_at hl 1 rfl) ?_
  refine lv_iconst (v := 0) hx hb dX1_drop_6 (by decide) ?_
  refine xp1_n E hW dX1_drop_7 (fun H locs hW => ?_)
  refine lv_iload_n hx hb dX1_drop_10 rfl (lv_at hl 0 rfl) ?_
  exact xiret1 E hW hQ hr hlk dX1_drop_11 (⟨rfl, rfl⟩)
set_option maxHeartbeats 4000000 in
theorem mX1_retract (l : Launch) (D : va_G) (d : Nat → ClassId) (h : Nat → Nat) (σ : SX)  : MXi1 l yX1_retract cX1_retract 1 (some .int) (rm 0 0) D d h [] σ (fun v u => (σ.1 0 = 0 ∧ v = -1 ∧ u = σ) ∨ (σ.1 0 ≠ 0 ∧ v = σ.1 0 - 1 ∧ u = sI σ 0 (σ.1 0 - 1))) := by
  refine MXi1.mk (by decide) rfl (Nat.le_of_ble_eq_true rfl) ?_
  intro p e s m args below meth c A ls Q hQ E hr hlk hW hl
  have hx := E.1
  have hb := E.2.1
  have hl : lv_has ls 1 [(0, .ref (h 0))] := hl
  refine lv_aload_n hx hb dX1_retract_0 rfl (lv_at hl 0 rfl) ?_
  refine xg1_n E hW dX1_retract_1 ?_
  refine lv_if_ne (tgt := 9) hx hb dX1_retract_4 (by decide) (fun c4 => ?_) (fun c4 => ?_)
  · refine lv_aload_n hx hb dX1_retract_9 rfl (lv_at hl 0 rfl) ?_
    refine lv_dup hx hb dX1_retract_10 rfl ?_
    refine xg1_n E hW dX1_retract_11 ?_
    refine lv_iconst (v := 1) hx hb dX1_retract_14 (by decide) ?_
    refine lv_isub hx hb dX1_retract_15 ?_
    refine xp1_n E hW dX1_retract_16 (fun H locs hW => ?_)
    refine lv_aload_n hx hb dX1_retract_19 rfl (lv_at hl 0 rfl) ?_
    refine xg1_n E hW dX1_retract_20 ?_
    exact xiret1 E hW hQ hr hlk dX1_retract_23 (Or.inr ⟨c4, rfl, rfl⟩)
  · refine lv_iconst (v := (-1)) hx hb dX1_retract_7 (by decide) ?_
    exact xiret1 E hW hQ hr hlk dX1_retract_8 (Or.inl ⟨c4, rfl, rfl⟩)
set_option maxHeartbeats 4000000 in
theorem mX1_register (l : Launch) (D : va_G) (d : Nat → ClassId) (h : Nat → Nat) (σ : SX) (r : Int32)  : MXi1 l yX1_register cX1_register 2 (some .int) (rm 1 21) D d h [.int r] σ (fun v u => u = σ ∧ v = if bR r = 0 then 0 else σ.2 5 (tn r)) := by
  refine MXi1.mk (by decide) rfl (Nat.le_of_ble_eq_true rfl) ?_
  intro p e s m args below meth c A ls Q hQ E hr hlk hW hl
  have hx := E.1
  have hb := E.2.1
  have hl : lv_has ls 2 [(0, .ref (h 0)), (1, .int r)] := hl
  refine lv_aload_n hx hb dX1_register_0 rfl (lv_at hl 0 rfl) ?_
  refine lv_iload_n hx hb dX1_register_1 rfl (lv_at hl 1 rfl) ?_
  refine xci1 (n := 1) (mX1_isRegister l D d h σ r) E hW (lw_V q232 q234 qs15 q20 q235) ⟨rfl, rfl⟩ (by decide +kernel) ⟨Nat.le_of_ble_eq_true rfl, Nat.le_of_ble_eq_true rfl⟩ rfl hl.1 rfl (Nat.le_of_ble_eq_true rfl) dX1_register_2 (fun r u H locs hp hW => ?_)
  obtain ⟨hu, er⟩ := hp
  have hW := hw_u1 hu hW
  subst er
  refine lv_if_eq (tgt := 17) hx hb dX1_register_5 (by decide) (fun c5 => ?_) (fun c5 => ?_)
  · refine lv_iconst (v := 0) hx hb dX1_register_17 (by decide) ?_
    exact xiret1 E hW hQ hr hlk dX1_register_18 (⟨rfl, by rw [if_pos c5]⟩)
  · obtain ⟨j, hj, ej⟩ := bR_ok c5
    have et : tn r = j := by rw [ej]; exact tn_nI (by omega)
    refine lv_aload_n hx hb dX1_register_8 rfl (lv_at hl 0 rfl) ?_
    refine xg1_regs E hW dX1_register_9 ?_
    refine lv_iload_n hx hb dX1_register_12 rfl (lv_at hl 1 rfl) ?_
    refine xl1_regs E hW ej hj dX1_register_13 ?_
    refine lv_goto (tgt := 18) hx hb dX1_register_14 (by decide) ?_
    exact xiret1 E hW hQ hr hlk dX1_register_18 (⟨rfl, by rw [if_neg c5, et]⟩)
set_option maxHeartbeats 4000000 in
theorem mX1_setRegister (l : Launch) (D : va_G) (d : Nat → ClassId) (h : Nat → Nat) (σ : SX) (r x : Int32)  : MXi1 l yX1_setRegister cX1_setRegister 3 (some .boolean) (rm 1 21) D d h [.int r, .int x] σ (fun v u => (bR r = 0 ∧ v = 0 ∧ u = σ) ∨ (¬ bR r = 0 ∧ v = 1 ∧ u = sA σ 5 (tn r) x)) := by
  refine MXi1.mk (by decide) rfl (Nat.le_of_ble_eq_true rfl) ?_
  intro p e s m args below meth c A ls Q hQ E hr hlk hW hl
  have hx := E.1
  have hb := E.2.1
  have hl : lv_has ls 3 [(0, .ref (h 0)), (1, .int r), (2, .int x)] := hl
  refine lv_aload_n hx hb dX1_setRegister_0 rfl (lv_at hl 0 rfl) ?_
  refine lv_iload_n hx hb dX1_setRegister_1 rfl (lv_at hl 1 rfl) ?_
  refine xci1 (n := 1) (mX1_isRegister l D d h σ r) E hW (lw_V q232 q234 qs15 q20 q235) ⟨rfl, rfl⟩ (by decide +kernel) ⟨Nat.le_of_ble_eq_true rfl, Nat.le_of_ble_eq_true rfl⟩ rfl hl.1 rfl (Nat.le_of_ble_eq_true rfl) dX1_setRegister_2 (fun r u H locs hp hW => ?_)
  obtain ⟨hu, er⟩ := hp
  have hW := hw_u1 hu hW
  subst er
  refine lv_if_ne (tgt := 10) hx hb dX1_setRegister_5 (by decide) (fun c5 => ?_) (fun c5 => ?_)
  · obtain ⟨j, hj, ej⟩ := bR_ok c5
    have et : tn r = j := by rw [ej]; exact tn_nI (by omega)
    refine lv_aload_n hx hb dX1_setRegister_10 rfl (lv_at hl 0 rfl) ?_
    refine xg1_regs E hW dX1_setRegister_11 ?_
    refine lv_iload_n hx hb dX1_setRegister_14 rfl (lv_at hl 1 rfl) ?_
    refine lv_iload_n hx hb dX1_setRegister_15 rfl (lv_at hl 2 rfl) ?_
    refine xs1_regs E hW ej hj dX1_setRegister_16 (fun H locs hW => ?_)
    refine lv_iconst (v := 1) hx hb dX1_setRegister_17 (by decide) ?_
    exact xzret1 E hW hQ hr hlk dX1_setRegister_18 (Or.inr rfl) (Or.inr ⟨c5, rfl, by rw [et]⟩)
  · refine lv_iconst (v := 0) hx hb dX1_setRegister_8 (by decide) ?_
    exact xzret1 E hW hQ hr hlk dX1_setRegister_9 (Or.inl rfl) (Or.inl ⟨c5, rfl, rfl⟩)
set_option maxHeartbeats 4000000 in
theorem mX1_memory (l : Launch) (D : va_G) (d : Nat → ClassId) (h : Nat → Nat) (σ : SX) (r : Int32)  : MXi1 l yX1_memory cX1_memory 2 (some .int) (rm 0 0) D d h [.int r] σ (fun v u => u = σ ∧ v = if r < 0 ∨ 15 < r then 0 else σ.2 6 (tn r)) := by
  refine MXi1.mk (by decide) rfl (Nat.le_of_ble_eq_true rfl) ?_
  intro p e s m args below meth c A ls Q hQ E hr hlk hW hl
  have hx := E.1
  have hb := E.2.1
  have hl : lv_has ls 2 [(0, .ref (h 0)), (1, .int r)] := hl
  refine lv_iload_n hx hb dX1_memory_0 rfl (lv_at hl 1 rfl) ?_
  refine lv_if_lt (tgt := 19) hx hb dX1_memory_1 (by decide) (fun c1 => ?_) (fun c1 => ?_)
  · refine lv_iconst (v := 0) hx hb dX1_memory_19 (by decide) ?_
    exact xiret1 E hW hQ hr hlk dX1_memory_20 (⟨rfl, by rw [if_pos (Or.inl c1)]⟩)
  · refine lv_iload_n hx hb dX1_memory_4 rfl (lv_at hl 1 rfl) ?_
    refine lv_bipush (v := 15) hx hb dX1_memory_5 (by decide) ?_
    refine lv_icmp_gt (tgt := 19) hx hb dX1_memory_7 (by decide) (fun c7 => ?_) (fun c7 => ?_)
    · refine lv_iconst (v := 0) hx hb dX1_memory_19 (by decide) ?_
      exact xiret1 E hW hQ hr hlk dX1_memory_20 (⟨rfl, by rw [if_pos (Or.inr c7)]⟩)
    · obtain ⟨j, hj, ej⟩ := nI_of2 (M := 15) (n := 15) rfl c1 (Int32.not_lt.mp c7)
      have et : tn r = j := by rw [ej]; exact tn_nI (by omega)
      refine lv_aload_n hx hb dX1_memory_10 rfl (lv_at hl 0 rfl) ?_
      refine xg1_cells E hW dX1_memory_11 ?_
      refine lv_iload_n hx hb dX1_memory_14 rfl (lv_at hl 1 rfl) ?_
      refine xl1_cells E hW ej (by omega) dX1_memory_15 ?_
      refine lv_goto (tgt := 20) hx hb dX1_memory_16 (by decide) ?_
      exact xiret1 E hW hQ hr hlk dX1_memory_20 (⟨rfl, by rw [if_neg (fun z => z.elim c1 c7), et]⟩)
set_option maxHeartbeats 4000000 in
theorem mX1_setMemory (l : Launch) (D : va_G) (d : Nat → ClassId) (h : Nat → Nat) (σ : SX) (r x : Int32)  : MXi1 l yX1_setMemory cX1_setMemory 3 (some .boolean) (rm 0 0) D d h [.int r, .int x] σ (fun v u => ((r < 0 ∨ 15 < r) ∧ v = 0 ∧ u = σ) ∨ (¬ (r < 0 ∨ 15 < r) ∧ v = 1 ∧ u = sA σ 6 (tn r) x)) := by
  refine MXi1.mk (by decide) rfl (Nat.le_of_ble_eq_true rfl) ?_
  intro p e s m args below meth c A ls Q hQ E hr hlk hW hl
  have hx := E.1
  have hb := E.2.1
  have hl : lv_has ls 3 [(0, .ref (h 0)), (1, .int r), (2, .int x)] := hl
  refine lv_iload_n hx hb dX1_setMemory_0 rfl (lv_at hl 1 rfl) ?_
  refine lv_if_lt (tgt := 10) hx hb dX1_setMemory_1 (by decide) (fun c1 => ?_) (fun c1 => ?_)
  · refine lv_iconst (v := 0) hx hb dX1_setMemory_10 (by decide) ?_
    exact xzret1 E hW hQ hr hlk dX1_setMemory_11 (Or.inl rfl) (Or.inl ⟨Or.inl c1, rfl, rfl⟩)
  · refine lv_iload_n hx hb dX1_setMemory_4 rfl (lv_at hl 1 rfl) ?_
    refine lv_bipush (v := 15) hx hb dX1_setMemory_5 (by decide) ?_
    refine lv_icmp_le (tgt := 12) hx hb dX1_setMemory_7 (by decide) (fun c7 => ?_) (fun c7 => ?_)
    · obtain ⟨j, hj, ej⟩ := nI_of2 (M := 15) (n := 15) rfl c1 (c7)
      have et : tn r = j := by rw [ej]; exact tn_nI (by omega)
      refine lv_aload_n hx hb dX1_setMemory_12 rfl (lv_at hl 0 rfl) ?_
      refine xg1_cells E hW dX1_setMemory_13 ?_
      refine lv_iload_n hx hb dX1_setMemory_16 rfl (lv_at hl 1 rfl) ?_
      refine lv_iload_n hx hb dX1_setMemory_17 rfl (lv_at hl 2 rfl) ?_
      refine xs1_cells E hW ej (by omega) dX1_setMemory_18 (fun H locs hW => ?_)
      refine lv_iconst (v := 1) hx hb dX1_setMemory_19 (by decide) ?_
      exact xzret1 E hW hQ hr hlk dX1_setMemory_20 (Or.inr rfl) (Or.inr ⟨fun z => z.elim c1 (fun y => i_nlt c7 y), rfl, by rw [et]⟩)
    · refine lv_iconst (v := 0) hx hb dX1_setMemory_10 (by decide) ?_
      exact xzret1 E hW hQ hr hlk dX1_setMemory_11 (Or.inl rfl) (Or.inl ⟨Or.inr (Int32.not_le.mp c7), rfl, rfl⟩)
end
section
set_option maxRecDepth 100000
/-- the givers lie within the queue -/
def gr3 (a : Nat → Nat → Int32) (k : Nat) : Prop := ∀ g : Int32, (g = a 9 k ∨ g = a 10 k ∨ g = a 11 k) → g < 0 ∨ ∃ j, j < 20 ∧ g = nI j
/-- a value can be had from g, or from the register r -/
def vr (g r : Int32) : Prop := (g < 0 ∧ ∃ j, j < 6 ∧ r = nI j) ∨ ∃ j, j < 20 ∧ g = nI j
theorem vr_g {g r : Int32} (h : vr g r) : g < 0 ∨ ∃ j, j < 20 ∧ g = nI j := h.imp (fun z => z.1) id
theorem sub1 (x : Int32) : x + Int32.ofInt (-1) = x - 1 := (Int32.sub_eq_add_neg x 1).symm
theorem sl_le {s k : Nat} (hs : s ≤ 20) (hk : k ≤ 20) (h : nI s - 1 < nI k) : s ≤ k := by
  match s, hs with
  | 0, _ => exact Nat.zero_le _
  | s + 1, _ =>
    rw [nI_pred] at h
    rcases Nat.lt_or_ge s k with q | q
    · exact q
    · exact absurd h (nI_nlt q (by omega))
theorem n_le {a b : Nat} (ha : a < 2 ^ 31) (hb : b < 2 ^ 31) (h : nI a ≤ nI b) : a ≤ b := (nI_leI ha hb).mp h
theorem n_nle {a b : Nat} (ha : a < 2 ^ 31) (hb : b < 2 ^ 31) (h : ¬ nI a ≤ nI b) : b < a := Nat.not_le.mp (fun z => h ((nI_leI ha hb).mpr z))
theorem nar_m1 : vp_nar .byte (-1) = -1 := nb8m
/-- a load that has read the cell from something older than the store i -/
def mt (a : Nat → Nat → Int32) (i : Nat) (cell : Int32) (j : Nat) : Prop := a 1 j = 4 ∧ a 13 j = 2 ∧ a 16 j = cell ∧ a 17 j < nI i
theorem lt_s2 {i j : Nat} {P : Nat → Prop} (h : ∀ b, i < b → b < j → ¬ P b) (hj : ¬ P j) : ∀ b, i < b → b < j + 1 → ¬ P b := by
  intro b b1 b2
  rcases Nat.lt_or_ge b j with q | q
  · exact h b b1 q
  · rw [show b = j by omega]; exact hj
set_option maxHeartbeats 4000000 in
theorem mX0_canStart (l : Launch) (D : va_G) (d : Nat → ClassId) (h : Nat → Nat) (σ : SX) {k : Nat} (hk : k < 20) (hg : gr3 σ.2 k) : MXi0 l yX0_canStart cX0_canStart 2 (some .boolean) (rm 1 21) D d h [.int (nI k)] σ (fun v u => u = σ ∧ ((v = 1 ∧ St σ.2 k) ∨ (v = 0 ∧ ¬ St σ.2 k))) := by
  refine MXi0.mk (by decide) rfl (Nat.le_of_ble_eq_true rfl) ?_
  intro p e s m args below meth c A ls Q hQ E hr hlk hW hl
  have hx := E.1
  have hb := E.2.1
  have hl : lv_has ls 2 [(0, .ref (h 0)), (1, .int (nI k))] := hl
  have t41 : ∀ (H : Heap) (locs : List Loc) (ls : Array Slot), dn σ.2 (σ.2 10 k) → (σ.2 1 k = 6 → dn σ.2 (σ.2 9 k)) → XW0 D d h A s H locs σ → lv_has ls 2 [(0, .ref (h 0)), (1, .int (nI k))] → W p l e (rm 1 21) s m args below meth c H locs 0 0 Q (F0 m 41 ls []) := by
    intro H locs ls hy hxx hW hl
    refine lv_aload_n hx hb dX0_canStart_41 rfl (lv_at hl 0 rfl) ?_
    refine lv_iload_n hx hb dX0_canStart_42 rfl (lv_at hl 1 rfl) ?_
    refine xci0 (n := 1) (mX0_hasThree l D d h σ hk) E hW (lw_V q116 q118 qs2 q19 q119) ⟨rfl, rfl⟩ (by decide +kernel) ⟨Nat.le_of_ble_eq_true rfl, Nat.le_of_ble_eq_true rfl⟩ rfl hl.1 rfl (Nat.le_of_ble_eq_true rfl) dX0_canStart_43 (fun r u H locs hp hW => ?_)
    obtain ⟨hu, er⟩ := hp
    have hW := hw_u hu hW
    refine lv_if_eq (tgt := 62) hx hb dX0_canStart_46 (by decide) (fun c46 => ?_) (fun c46 => ?_)
    · have c3 : ¬ thr (σ.2 1 k) := by
        rcases er with y | y
        · rw [y.1] at c46; exact absurd c46 (by decide)
        · exact y.2
      refine lv_iconst (v := 1) hx hb dX0_canStart_62 (by decide) ?_
      refine lv_goto (tgt := 67) hx hb dX0_canStart_63 (by decide) ?_
      exact xzret0 E hW hQ hr hlk dX0_canStart_67 (Or.inr rfl) (⟨rfl, Or.inl ⟨rfl, hy, hxx, fun y => absurd y c3⟩⟩)
    · have c3 : thr (σ.2 1 k) := by
        rcases er with y | y
        · exact y.2
        · exact absurd y.1 c46
      refine lv_aload_n hx hb dX0_canStart_49 rfl (lv_at hl 0 rfl) ?_
      refine lv_aload_n hx hb dX0_canStart_50 rfl (lv_at hl 0 rfl) ?_
      refine xg0_giverZ E hW dX0_canStart_51 ?_
      refine lv_iload_n hx hb dX0_canStart_54 rfl (lv_at hl 1 rfl) ?_
      refine xl0_giverZ E hW rfl hk dX0_canStart_55 ?_
      refine xci0 (n := 1) (mX0_isThere l D d h σ (hg _ (Or.inr (Or.inr rfl)))) E hW (lw_V q137 q139 qs7 q19 q140) ⟨rfl, rfl⟩ (by decide +kernel) ⟨Nat.le_of_ble_eq_true rfl, Nat.le_of_ble_eq_true rfl⟩ rfl hl.1 rfl (Nat.le_of_ble_eq_true rfl) dX0_canStart_56 (fun r u H locs hp hW => ?_)
      obtain ⟨hu, er2⟩ := hp
      have hW := hw_u hu hW
      refine lv_if_eq (tgt := 66) hx hb dX0_canStart_59 (by decide) (fun c59 => ?_) (fun c59 => ?_)
      · have c4 : ¬ dn σ.2 (σ.2 11 k) := by
          rcases er2 with y | y
          · rw [y.1] at c59; exact absurd c59 (by decide)
          · exact y.2
        refine lv_iconst (v := 0) hx hb dX0_canStart_66 (by decide) ?_
        exact xzret0 E hW hQ hr hlk dX0_canStart_67 (Or.inl rfl) (⟨rfl, Or.inr ⟨rfl, fun y => c4 (y.2.2 c3)⟩⟩)
      · have c4 : dn σ.2 (σ.2 11 k) := by
          rcases er2 with y | y
          · exact y.2
          · exact absurd y.1 c59
        refine lv_iconst (v := 1) hx hb dX0_canStart_62 (by decide) ?_
        refine lv_goto (tgt := 67) hx hb dX0_canStart_63 (by decide) ?_
        exact xzret0 E hW hQ hr hlk dX0_canStart_67 (Or.inr rfl) (⟨rfl, Or.inl ⟨rfl, hy, hxx, fun _ => c4⟩⟩)
  refine lv_aload_n hx hb dX0_canStart_0 rfl (lv_at hl 0 rfl) ?_
  refine lv_aload_n hx hb dX0_canStart_1 rfl (lv_at hl 0 rfl) ?_
  refine xg0_giverY E hW dX0_canStart_2 ?_
  refine lv_iload_n hx hb dX0_canStart_5 rfl (lv_at hl 1 rfl) ?_
  refine xl0_giverY E hW rfl hk dX0_canStart_6 ?_
  refine xci0 (n := 1) (mX0_isThere l D d h σ (hg _ (Or.inr (Or.inl rfl)))) E hW (lw_V q137 q139 qs7 q19 q140) ⟨rfl, rfl⟩ (by decide +kernel) ⟨Nat.le_of_ble_eq_true rfl, Nat.le_of_ble_eq_true rfl⟩ rfl hl.1 rfl (Nat.le_of_ble_eq_true rfl) dX0_canStart_7 (fun r u H locs hp hW => ?_)
  obtain ⟨hu, er⟩ := hp
  have hW := hw_u hu hW
  refine lv_if_ne (tgt := 15) hx hb dX0_canStart_10 (by decide) (fun c10 => ?_) (fun c10 => ?_)
  · have hy : dn σ.2 (σ.2 10 k) := by
      rcases er with y | y
      · exact y.2
      · exact absurd y.1 c10
    refine lv_aload_n hx hb dX0_canStart_15 rfl (lv_at hl 0 rfl) ?_
    refine xg0_opcode E hW dX0_canStart_16 ?_
    refine lv_iload_n hx hb dX0_canStart_19 rfl (lv_at hl 1 rfl) ?_
    refine xl0_opcode E hW rfl hk dX0_canStart_20 ?_
    refine lv_bipush (v := 6) hx hb dX0_canStart_21 (by decide) ?_
    refine lv_icmp_ne (tgt := 41) hx hb dX0_canStart_23 (by decide) (fun c23 => ?_) (fun c23 => ?_)
    · exact t41 _ _ ls hy (fun y => absurd y c23) hW hl
    · refine lv_aload_n hx hb dX0_canStart_26 rfl (lv_at hl 0 rfl) ?_
      refine lv_aload_n hx hb dX0_canStart_27 rfl (lv_at hl 0 rfl) ?_
      refine xg0_giverX E hW dX0_canStart_28 ?_
      refine lv_iload_n hx hb dX0_canStart_31 rfl (lv_at hl 1 rfl) ?_
      refine xl0_giverX E hW rfl hk dX0_canStart_32 ?_
      refine xci0 (n := 1) (mX0_isThere l D d h σ (hg _ (Or.inl rfl))) E hW (lw_V q137 q139 qs7 q19 q140) ⟨rfl, rfl⟩ (by decide +kernel) ⟨Nat.le_of_ble_eq_true rfl, Nat.le_of_ble_eq_true rfl⟩ rfl hl.1 rfl (Nat.le_of_ble_eq_true rfl) dX0_canStart_33 (fun r u H locs hp hW => ?_)
      obtain ⟨hu, er2⟩ := hp
      have hW := hw_u hu hW
      refine lv_if_ne (tgt := 41) hx hb dX0_canStart_36 (by decide) (fun c36 => ?_) (fun c36 => ?_)
      · have c4 : dn σ.2 (σ.2 9 k) := by
          rcases er2 with y | y
          · exact y.2
          · exact absurd y.1 c36
        exact t41 _ _ ls hy (fun _ => c4) hW hl
      · have c4 : ¬ dn σ.2 (σ.2 9 k) := by
          rcases er2 with y | y
          · rw [y.1] at c36; exact absurd c36 (by decide)
          · exact y.2
        refine lv_iconst (v := 0) hx hb dX0_canStart_39 (by decide) ?_
        exact xzret0 E hW hQ hr hlk dX0_canStart_40 (Or.inl rfl) (⟨rfl, Or.inr ⟨rfl, fun y => c4 (y.2.1 c23)⟩⟩)
  · have hy : ¬ dn σ.2 (σ.2 10 k) := by
      rcases er with y | y
      · rw [y.1] at c10; exact absurd c10 (by decide)
      · exact y.2
    refine lv_iconst (v := 0) hx hb dX0_canStart_13 (by decide) ?_
    exact xzret0 E hW hQ hr hlk dX0_canStart_14 (Or.inl rfl) (⟨rfl, Or.inr ⟨rfl, fun y => hy y.1⟩⟩)
set_option maxHeartbeats 4000000 in
theorem mX0_addressOf (l : Launch) (D : va_G) (d : Nat → ClassId) (h : Nat → Nat) (σ : SX) {k : Nat} (hk : k < 20) (hg : vr (σ.2 10 k) (σ.2 3 k)) : MXi0 l yX0_addressOf cX0_addressOf 3 (some .int) (rm 1 22) D d h [.int (nI k)] σ (fun v u => u = σ ∧ v = aF σ.2 k) := by
  refine MXi0.mk (by decide) rfl (Nat.le_of_ble_eq_true rfl) ?_
  intro p e s m args below meth c A ls Q hQ E hr hlk hW hl
  have hx := E.1
  have hb := E.2.1
  have hl : lv_has ls 3 [(0, .ref (h 0)), (1, .int (nI k))] := hl
  refine lv_aload_n hx hb dX0_addressOf_0 rfl (lv_at hl 0 rfl) ?_
  refine lv_aload_n hx hb dX0_addressOf_1 rfl (lv_at hl 0 rfl) ?_
  refine xg0_giverY E hW dX0_addressOf_2 ?_
  refine lv_iload_n hx hb dX0_addressOf_5 rfl (lv_at hl 1 rfl) ?_
  refine xl0_giverY E hW rfl hk dX0_addressOf_6 ?_
  refine lv_aload_n hx hb dX0_addressOf_7 rfl (lv_at hl 0 rfl) ?_
  refine xg0_fieldY E hW dX0_addressOf_8 ?_
  refine lv_iload_n hx hb dX0_addressOf_11 rfl (lv_at hl 1 rfl) ?_
  refine xl0_fieldY E hW rfl hk dX0_addressOf_12 ?_
  refine xci0 (n := 2) (mX0_valueFrom l D d h σ hg) E hW (lw_V q149 q151 qs10 q19 q152) ⟨rfl, rfl⟩ (by decide +kernel) ⟨Nat.le_of_ble_eq_true rfl, Nat.le_of_ble_eq_true rfl⟩ rfl hl.1 rfl (Nat.le_of_ble_eq_true rfl) dX0_addressOf_13 (fun r u H locs hp hW => ?_)
  obtain ⟨hu, er⟩ := hp
  have hW := hw_u hu hW
  subst er
  refine lv_istore_n (lv' := [(2, .int _), (0, .ref _), (1, .int _)]) hx hb dX0_addressOf_16 rfl hl (by decide) rfl (fun ls hl => ?_)
  refine lv_iload_n hx hb dX0_addressOf_17 rfl (lv_at hl 0 rfl) ?_
  refine lv_aload_n hx hb dX0_addressOf_18 rfl (lv_at hl 1 rfl) ?_
  refine xg0_fieldZ E hW dX0_addressOf_19 ?_
  refine lv_iload_n hx hb dX0_addressOf_22 rfl (lv_at hl 2 rfl) ?_
  refine xl0_fieldZ E hW rfl hk dX0_addressOf_23 ?_
  refine lv_iadd hx hb dX0_addressOf_24 ?_
  refine lv_bipush (v := 15) hx hb dX0_addressOf_25 (by decide) ?_
  refine lv_iand hx hb dX0_addressOf_27 ?_
  exact xiret0 E hW hQ hr hlk dX0_addressOf_28 (⟨rfl, rfl⟩)
set_option maxHeartbeats 4000000 in
theorem mX0_finishPlain (l : Launch) (D : va_G) (d : Nat → ClassId) (h : Nat → Nat) (σ : SX) {k : Nat} (hk : k < 20) (hgx : vr (σ.2 9 k) (σ.2 2 k)) (hgy : σ.2 1 k ≠ 0 → vr (σ.2 10 k) (σ.2 3 k)) (hgz : σ.2 1 k ≠ 0 → vr (σ.2 11 k) (σ.2 4 k)) : MXv0 l yX0_finishPlain cX0_finishPlain 6 (rm 1 22) D d h [.int (nI k)] σ (fun u => u = sA (sA σ 15 k (pV σ.2 k)) 13 k 2) := by
  refine MXv0.mk (by decide) rfl (Nat.le_of_ble_eq_true rfl) ?_
  intro p e s m args below meth c A ls Q hQ E hr hlk hW hl
  have hx := E.1
  have hb := E.2.1
  have hl : lv_has ls 6 [(0, .ref (h 0)), (1, .int (nI k))] := hl
  have t123 : ∀ (val : Int32) (H : Heap) (locs : List Loc) (ls : Array Slot), val = pV σ.2 k → XW0 D d h A s H locs σ → lv_has ls 6 [(3, .int val), (0, .ref (h 0)), (1, .int (nI k))] → W p l e (rm 1 22) s m args below meth c H locs 0 0 Q (F0 m 123 ls []) := by
    intro val H locs ls ev hW hl
    subst ev
    refine lv_aload_n hx hb dX0_finishPlain_123 rfl (lv_at hl 1 rfl) ?_
    refine xg0_result E hW dX0_finishPlain_124 ?_
    refine lv_iload_n hx hb dX0_finishPlain_127 rfl (lv_at hl 2 rfl) ?_
    refine lv_iload_n hx hb dX0_finishPlain_128 rfl (lv_at hl 0 rfl) ?_
    refine xs0_result E hW rfl hk dX0_finishPlain_129 (fun H locs hW => ?_)
    refine lv_aload_n hx hb dX0_finishPlain_130 rfl (lv_at hl 1 rfl) ?_
    refine xg0_progress E hW dX0_finishPlain_131 ?_
    refine lv_iload_n hx hb dX0_finishPlain_134 rfl (lv_at hl 2 rfl) ?_
    refine lv_iconst (v := 2) hx hb dX0_finishPlain_135 (by decide) ?_
    refine xs0_progress E hW rfl hk (nb8 (k := 2) (by decide)) dX0_finishPlain_136 (fun H locs hW => ?_)
    exact xvret0 E hW hQ hr hlk dX0_finishPlain_137 (rfl)
  refine lv_aload_n hx hb dX0_finishPlain_0 rfl (lv_at hl 0 rfl) ?_
  refine xg0_opcode E hW dX0_finishPlain_1 ?_
  refine lv_iload_n hx hb dX0_finishPlain_4 rfl (lv_at hl 1 rfl) ?_
  refine xl0_opcode E hW rfl hk dX0_finishPlain_5 ?_
  refine lv_istore_n (lv' := [(2, .int _), (0, .ref _), (1, .int _)]) hx hb dX0_finishPlain_6 rfl hl (by decide) rfl (fun ls hl => ?_)
  refine lv_aload_n hx hb dX0_finishPlain_7 rfl (lv_at hl 1 rfl) ?_
  refine xg0_fieldY E hW dX0_finishPlain_8 ?_
  refine lv_iload_n hx hb dX0_finishPlain_11 rfl (lv_at hl 2 rfl) ?_
  refine xl0_fieldY E hW rfl hk dX0_finishPlain_12 ?_
  refine lv_istore_n (lv' := [(3, .int _), (2, .int _), (0, .ref _), (1, .int _)]) hx hb dX0_finishPlain_13 rfl hl (by decide) rfl (fun ls hl => ?_)
  refine lv_iload_n hx hb dX0_finishPlain_14 rfl (lv_at hl 1 rfl) ?_
  refine lv_if_eq (tgt := 123) hx hb dX0_finishPlain_15 (by decide) (fun c15 => ?_) (fun c15 => ?_)
  · exact t123 _ _ _ ls (by unfold pV; rw [if_pos c15]) hW (lv_sub hl [0, 2, 3] rfl)
  · refine lv_aload_n hx hb dX0_finishPlain_18 rfl (lv_at hl 2 rfl) ?_
    refine lv_aload_n hx hb dX0_finishPlain_19 rfl (lv_at hl 2 rfl) ?_
    refine xg0_giverY E hW dX0_finishPlain_20 ?_
    refine lv_iload_n hx hb dX0_finishPlain_23 rfl (lv_at hl 3 rfl) ?_
    refine xl0_giverY E hW rfl hk dX0_finishPlain_24 ?_
    refine lv_aload_n hx hb dX0_finishPlain_25 rfl (lv_at hl 2 rfl) ?_
    refine xg0_fieldY E hW dX0_finishPlain_26 ?_
    refine lv_iload_n hx hb dX0_finishPlain_29 rfl (lv_at hl 3 rfl) ?_
    refine xl0_fieldY E hW rfl hk dX0_finishPlain_30 ?_
    refine xci0 (n := 2) (mX0_valueFrom l D d h σ (hgy c15)) E hW (lw_V q149 q151 qs10 q19 q152) ⟨rfl, rfl⟩ (by decide +kernel) ⟨Nat.le_of_ble_eq_true rfl, Nat.le_of_ble_eq_true rfl⟩ rfl hl.1 rfl (Nat.le_of_ble_eq_true rfl) dX0_finishPlain_31 (fun r u H locs hp hW => ?_)
    obtain ⟨hu, er⟩ := hp
    have hW := hw_u hu hW
    subst er
    refine lv_istore (lv' := [(4, .int _), (3, .int _), (2, .int _), (0, .ref _), (1, .int _)]) hx hb dX0_finishPlain_34 hl (by decide) rfl (fun ls hl => ?_)
    refine lv_aload_n hx hb dX0_finishPlain_36 rfl (lv_at hl 3 rfl) ?_
    refine lv_aload_n hx hb dX0_finishPlain_37 rfl (lv_at hl 3 rfl) ?_
    refine xg0_giverZ E hW dX0_finishPlain_38 ?_
    refine lv_iload_n hx hb dX0_finishPlain_41 rfl (lv_at hl 4 rfl) ?_
    refine xl0_giverZ E hW rfl hk dX0_finishPlain_42 ?_
    refine lv_aload_n hx hb dX0_finishPlain_43 rfl (lv_at hl 3 rfl) ?_
    refine xg0_fieldZ E hW dX0_finishPlain_44 ?_
    refine lv_iload_n hx hb dX0_finishPlain_47 rfl (lv_at hl 4 rfl) ?_
    refine xl0_fieldZ E hW rfl hk dX0_finishPlain_48 ?_
    refine xci0 (n := 2) (mX0_valueFrom l D d h σ (hgz c15)) E hW (lw_V q149 q151 qs10 q19 q152) ⟨rfl, rfl⟩ (by decide +kernel) ⟨Nat.le_of_ble_eq_true rfl, Nat.le_of_ble_eq_true rfl⟩ rfl hl.1 rfl (Nat.le_of_ble_eq_true rfl) dX0_finishPlain_49 (fun r u H locs hp hW => ?_)
    obtain ⟨hu, er⟩ := hp
    have hW := hw_u hu hW
    subst er
    refine lv_istore (lv' := [(5, .int _), (4, .int _), (3, .int _), (2, .int _), (0, .ref _), (1, .int _)]) hx hb dX0_finishPlain_52 hl (by decide) rfl (fun ls hl => ?_)
    refine lv_iload_n hx hb dX0_finishPlain_54 rfl (lv_at hl 3 rfl) ?_
    refine lv_iconst (v := 1) hx hb dX0_finishPlain_55 (by decide) ?_
    refine lv_icmp_ne (tgt := 68) hx hb dX0_finishPlain_56 (by decide) (fun c56 => ?_) (fun c56 => ?_)
    · refine lv_iload_n hx hb dX0_finishPlain_68 rfl (lv_at hl 3 rfl) ?_
      refine lv_iconst (v := 2) hx hb dX0_finishPlain_69 (by decide) ?_
      refine lv_icmp_ne (tgt := 82) hx hb dX0_finishPlain_70 (by decide) (fun c70 => ?_) (fun c70 => ?_)
      · refine lv_iload_n hx hb dX0_finishPlain_82 rfl (lv_at hl 3 rfl) ?_
        refine lv_iconst (v := 3) hx hb dX0_finishPlain_83 (by decide) ?_
        refine lv_icmp_ne (tgt := 96) hx hb dX0_finishPlain_84 (by decide) (fun c84 => ?_) (fun c84 => ?_)
        · refine lv_iload hx hb dX0_finishPlain_96 (lv_at hl 1 rfl) ?_
          refine lv_if_le (tgt := 106) hx hb dX0_finishPlain_98 (by decide) (fun c98 => ?_) (fun c98 => ?_)
          · refine lv_aload_n hx hb dX0_finishPlain_106 rfl (lv_at hl 4 rfl) ?_
            refine lv_aload_n hx hb dX0_finishPlain_107 rfl (lv_at hl 4 rfl) ?_
            refine xg0_giverX E hW dX0_finishPlain_108 ?_
            refine lv_iload_n hx hb dX0_finishPlain_111 rfl (lv_at hl 5 rfl) ?_
            refine xl0_giverX E hW rfl hk dX0_finishPlain_112 ?_
            refine lv_aload_n hx hb dX0_finishPlain_113 rfl (lv_at hl 4 rfl) ?_
            refine xg0_fieldX E hW dX0_finishPlain_114 ?_
            refine lv_iload_n hx hb dX0_finishPlain_117 rfl (lv_at hl 5 rfl) ?_
            refine xl0_fieldX E hW rfl hk dX0_finishPlain_118 ?_
            refine xci0 (n := 2) (mX0_valueFrom l D d h σ hgx) E hW (lw_V q149 q151 qs10 q19 q152) ⟨rfl, rfl⟩ (by decide +kernel) ⟨Nat.le_of_ble_eq_true rfl, Nat.le_of_ble_eq_true rfl⟩ rfl hl.1 rfl (Nat.le_of_ble_eq_true rfl) dX0_finishPlain_119 (fun r u H locs hp hW => ?_)
            obtain ⟨hu, er⟩ := hp
            have hW := hw_u hu hW
            subst er
            refine lv_istore_n (lv' := [(3, .int _), (5, .int _), (4, .int _), (2, .int _), (0, .ref _), (1, .int _)]) hx hb dX0_finishPlain_122 rfl hl (by decide) rfl (fun ls hl => ?_)
            exact t123 _ _ _ ls (by unfold pV; rw [if_neg c15, if_neg c56, if_neg c70, if_neg c84, if_pos c98]) hW (lv_sub hl [0, 4, 5] rfl)
          · refine lv_iload hx hb dX0_finishPlain_101 (lv_at hl 0 rfl) ?_
            refine lv_goto (tgt := 122) hx hb dX0_finishPlain_103 (by decide) ?_
            refine lv_istore_n (lv' := [(3, .int _), (5, .int _), (4, .int _), (2, .int _), (0, .ref _), (1, .int _)]) hx hb dX0_finishPlain_122 rfl hl (by decide) rfl (fun ls hl => ?_)
            exact t123 _ _ _ ls (by unfold pV; rw [if_neg c15, if_neg c56, if_neg c70, if_neg c84, if_neg c98]) hW (lv_sub hl [0, 4, 5] rfl)
        · refine lv_iload hx hb dX0_finishPlain_87 (lv_at hl 1 rfl) ?_
          refine lv_iload hx hb dX0_finishPlain_89 (lv_at hl 0 rfl) ?_
          refine lv_imul hx hb dX0_finishPlain_91 ?_
          refine lv_istore_n (lv' := [(3, .int _), (5, .int _), (4, .int _), (2, .int _), (0, .ref _), (1, .int _)]) hx hb dX0_finishPlain_92 rfl hl (by decide) rfl (fun ls hl => ?_)
          refine lv_goto (tgt := 123) hx hb dX0_finishPlain_93 (by decide) ?_
          exact t123 _ _ _ ls (by unfold pV; rw [if_neg c15, if_neg c56, if_neg c70, if_pos c84]) hW (lv_sub hl [0, 4, 5] rfl)
      · refine lv_iload hx hb dX0_finishPlain_73 (lv_at hl 1 rfl) ?_
        refine lv_iload hx hb dX0_finishPlain_75 (lv_at hl 0 rfl) ?_
        refine lv_isub hx hb dX0_finishPlain_77 ?_
        refine lv_istore_n (lv' := [(3, .int _), (5, .int _), (4, .int _), (2, .int _), (0, .ref _), (1, .int _)]) hx hb dX0_finishPlain_78 rfl hl (by decide) rfl (fun ls hl => ?_)
        refine lv_goto (tgt := 123) hx hb dX0_finishPlain_79 (by decide) ?_
        exact t123 _ _ _ ls (by unfold pV; rw [if_neg c15, if_neg c56, if_pos c70]) hW (lv_sub hl [0, 4, 5] rfl)
    · refine lv_iload hx hb dX0_finishPlain_59 (lv_at hl 1 rfl) ?_
      refine lv_iload hx hb dX0_finishPlain_61 (lv_at hl 0 rfl) ?_
      refine lv_iadd hx hb dX0_finishPlain_63 ?_
      refine lv_istore_n (lv' := [(3, .int _), (5, .int _), (4, .int _), (2, .int _), (0, .ref _), (1, .int _)]) hx hb dX0_finishPlain_64 rfl hl (by decide) rfl (fun ls hl => ?_)
      refine lv_goto (tgt := 123) hx hb dX0_finishPlain_65 (by decide) ?_
      exact t123 _ _ _ ls (by unfold pV; rw [if_neg c15, if_pos c56]) hW (lv_sub hl [0, 4, 5] rfl)
set_option maxHeartbeats 4000000 in
theorem mX0_catchEarly (lL : Launch) (D : va_G) (d : Nat → ClassId) (h : Nat → Nat) (σ : SX) {n i : Nat} (cell : Int32) (hn : n ≤ 20) (hln : σ.1 0 = nI n) (hi : i < n) : MXv0 lL yX0_catchEarly cX0_catchEarly 5 (rm 1 21) D d h [.int (nI i), .int cell] σ (fun u => ∃ l, i < l ∧ l ≤ n ∧ (∀ j, i < j → j < l → ¬ mt σ.2 i cell j) ∧ u = sbN σ l (n - l)) := by
  refine MXv0.mk (by decide) rfl (Nat.le_of_ble_eq_true rfl) ?_
  intro p e s m args below meth c A ls Q hQ E hr hlk hW hl
  have hx := E.1
  have hb := E.2.1
  have hl : lv_has ls 5 [(0, .ref (h 0)), (1, .int (nI i)), (2, .int cell)] := hl
  have inner : ∀ (w l a : Nat) (H : Heap) (locs : List Loc) (ls : Array Slot), i < l → l + a + w = n → (∀ j, i < j → j < l → ¬ mt σ.2 i cell j) → XW0 D d h A s H locs (sbN σ l a) → lv_has ls 5 [(4, .int (nI (l + a))), (0, .ref (h 0))] → W p lL e (rm 1 21) s m args below meth c H locs 0 0 Q (F0 m 58 ls []) := by
    intro w
    induction w with
    | zero =>
      intro l a H locs ls hl1 hl2 hm hW hl
      have hln : (sbN σ l a).1 0 = nI n := by rw [(sbN_spec σ l a).2.1]; exact hln
      refine lv_iload hx hb dX0_catchEarly_58 (lv_at hl 0 rfl) ?_
      refine lv_aload_n hx hb dX0_catchEarly_60 rfl (lv_at hl 1 rfl) ?_
      refine xg0_length E hW dX0_catchEarly_61 ?_
      refine lv_icmp_ge (tgt := 79) hx hb dX0_catchEarly_64 (by decide) (fun c64 => ?_) (fun c64 => ?_)
      · exact xvret0 E hW hQ hr hlk dX0_catchEarly_79 (⟨l, hl1, by omega, hm, by rw [show n - l = a by omega]⟩)
      · rw [hln] at c64
        exact absurd (nI_le (by omega) (by omega)) c64
    | succ w ih =>
      intro l a H locs ls hl1 hl2 hm hW hl
      have hln : (sbN σ l a).1 0 = nI n := by rw [(sbN_spec σ l a).2.1]; exact hln
      refine lv_iload hx hb dX0_catchEarly_58 (lv_at hl 0 rfl) ?_
      refine lv_aload_n hx hb dX0_catchEarly_60 rfl (lv_at hl 1 rfl) ?_
      refine xg0_length E hW dX0_catchEarly_61 ?_
      refine lv_icmp_ge (tgt := 79) hx hb dX0_catchEarly_64 (by decide) (fun c64 => ?_) (fun c64 => ?_)
      · rw [hln] at c64
        exact absurd (n_le (by omega) (by omega) c64) (by omega)
      · refine lv_aload_n hx hb dX0_catchEarly_67 rfl (lv_at hl 1 rfl) ?_
        refine lv_iload hx hb dX0_catchEarly_68 (lv_at hl 0 rfl) ?_
        refine xcv0 (n := 1) (mX0_setBack lL D d h (sbN σ l a) (k := l + a) (by omega)) E hW (lw_V q120 q122 qs3 q19 q123) ⟨rfl, rfl⟩ (by decide +kernel) ⟨Nat.le_of_ble_eq_true rfl, Nat.le_of_ble_eq_true rfl⟩ rfl hl.1 rfl (Nat.le_of_ble_eq_true rfl) dX0_catchEarly_70 (fun u H locs hp hW => ?_)
        have hW := hw_u hp hW
        refine lv_iinc (v := (nI (l + a + 1))) (lv' := [(4, .int (nI (l + a + 1))), (0, .ref _)]) hx hb dX0_catchEarly_73 hl (k := 0) rfl (ii1 _) (by decide) rfl (fun ls hl => ?_)
        refine lv_goto (tgt := 58) hx hb dX0_catchEarly_76 (by decide) ?_
        exact ih l (a + 1) H locs ls hl1 (by omega) hm hW (lv_sub hl [0, 1] rfl)
  have outer : ∀ (w j : Nat) (H : Heap) (locs : List Loc) (ls : Array Slot), i < j → j + w = n → (∀ b, i < b → b < j → ¬ mt σ.2 i cell b) → XW0 D d h A s H locs σ → lv_has ls 5 [(3, .int (nI j)), (0, .ref (h 0)), (1, .int (nI i)), (2, .int cell)] → W p lL e (rm 1 21) s m args below meth c H locs 0 0 Q (F0 m 4 ls []) := by
    intro w
    induction w with
    | zero =>
      intro j H locs ls hj1 hj2 hm hW hl
      refine lv_iload_n hx hb dX0_catchEarly_4 rfl (lv_at hl 0 rfl) ?_
      refine lv_aload_n hx hb dX0_catchEarly_5 rfl (lv_at hl 1 rfl) ?_
      refine xg0_length E hW dX0_catchEarly_6 ?_
      refine lv_icmp_ge (tgt := 86) hx hb dX0_catchEarly_9 (by decide) (fun c9 => ?_) (fun c9 => ?_)
      · exact xvret0 E hW hQ hr hlk dX0_catchEarly_86 (⟨n, by omega, Nat.le_refl _, fun b b1 b2 => hm b b1 (by omega), by rw [Nat.sub_self]; rfl⟩)
      · rw [hln] at c9
        exact absurd (nI_le (by omega) (by omega)) c9
    | succ w ih =>
      intro j H locs ls hj1 hj2 hm hW hl
      refine lv_iload_n hx hb dX0_catchEarly_4 rfl (lv_at hl 0 rfl) ?_
      refine lv_aload_n hx hb dX0_catchEarly_5 rfl (lv_at hl 1 rfl) ?_
      refine xg0_length E hW dX0_catchEarly_6 ?_
      refine lv_icmp_ge (tgt := 86) hx hb dX0_catchEarly_9 (by decide) (fun c9 => ?_) (fun c9 => ?_)
      · rw [hln] at c9
        exact absurd (n_le (by omega) (by omega) c9) (by omega)
      · have hk : j < 20 := by omega
        refine lv_aload_n hx hb dX0_catchEarly_12 rfl (lv_at hl 1 rfl) ?_
        refine xg0_opcode E hW dX0_catchEarly_13 ?_
        refine lv_iload_n hx hb dX0_catchEarly_16 rfl (lv_at hl 0 rfl) ?_
        refine xl0_opcode E hW rfl hk dX0_catchEarly_17 ?_
        refine lv_iconst (v := 4) hx hb dX0_catchEarly_18 (by decide) ?_
        refine lv_icmp_ne (tgt := 80) hx hb dX0_catchEarly_19 (by decide) (fun c19 => ?_) (fun c19 => ?_)
        · refine lv_iinc (v := (nI (j + 1))) (lv' := [(3, .int (nI (j + 1))), (0, .ref _), (1, .int _), (2, .int _)]) hx hb dX0_catchEarly_80 hl (k := 0) rfl (ii1 _) (by decide) rfl (fun ls hl => ?_)
          refine lv_goto (tgt := 4) hx hb dX0_catchEarly_83 (by decide) ?_
          exact ih (j + 1) H locs ls (by omega) (by omega) (lt_s2 hm (fun z => c19 z.1)) hW (lv_sub hl [0, 1, 2, 3] rfl)
        · refine lv_aload_n hx hb dX0_catchEarly_22 rfl (lv_at hl 1 rfl) ?_
          refine xg0_progress E hW dX0_catchEarly_23 ?_
          refine lv_iload_n hx hb dX0_catchEarly_26 rfl (lv_at hl 0 rfl) ?_
          refine xl0_progress E hW rfl hk dX0_catchEarly_27 ?_
          refine lv_iconst (v := 2) hx hb dX0_catchEarly_28 (by decide) ?_
          refine lv_icmp_ne (tgt := 80) hx hb dX0_catchEarly_29 (by decide) (fun c29 => ?_) (fun c29 => ?_)
          · refine lv_iinc (v := (nI (j + 1))) (lv' := [(3, .int (nI (j + 1))), (0, .ref _), (1, .int _), (2, .int _)]) hx hb dX0_catchEarly_80 hl (k := 0) rfl (ii1 _) (by decide) rfl (fun ls hl => ?_)
            refine lv_goto (tgt := 4) hx hb dX0_catchEarly_83 (by decide) ?_
            exact ih (j + 1) H locs ls (by omega) (by omega) (lt_s2 hm (fun z => c29 z.2.1)) hW (lv_sub hl [0, 1, 2, 3] rfl)
          · refine lv_aload_n hx hb dX0_catchEarly_32 rfl (lv_at hl 1 rfl) ?_
            refine xg0_cellOf E hW dX0_catchEarly_33 ?_
            refine lv_iload_n hx hb dX0_catchEarly_36 rfl (lv_at hl 0 rfl) ?_
            refine xl0_cellOf E hW rfl hk dX0_catchEarly_37 ?_
            refine lv_iload_n hx hb dX0_catchEarly_38 rfl (lv_at hl 3 rfl) ?_
            refine lv_icmp_ne (tgt := 80) hx hb dX0_catchEarly_39 (by decide) (fun c39 => ?_) (fun c39 => ?_)
            · refine lv_iinc (v := (nI (j + 1))) (lv' := [(3, .int (nI (j + 1))), (0, .ref _), (1, .int _), (2, .int _)]) hx hb dX0_catchEarly_80 hl (k := 0) rfl (ii1 _) (by decide) rfl (fun ls hl => ?_)
              refine lv_goto (tgt := 4) hx hb dX0_catchEarly_83 (by decide) ?_
              exact ih (j + 1) H locs ls (by omega) (by omega) (lt_s2 hm (fun z => c39 z.2.2.1)) hW (lv_sub hl [0, 1, 2, 3] rfl)
            · refine lv_aload_n hx hb dX0_catchEarly_42 rfl (lv_at hl 1 rfl) ?_
              refine xg0_source E hW dX0_catchEarly_43 ?_
              refine lv_iload_n hx hb dX0_catchEarly_46 rfl (lv_at hl 0 rfl) ?_
              refine xl0_source E hW rfl hk dX0_catchEarly_47 ?_
              refine lv_iload_n hx hb dX0_catchEarly_48 rfl (lv_at hl 2 rfl) ?_
              refine lv_icmp_lt (tgt := 55) hx hb dX0_catchEarly_49 (by decide) (fun c49 => ?_) (fun c49 => ?_)
              · refine lv_iload_n hx hb dX0_catchEarly_55 rfl (lv_at hl 0 rfl) ?_
                refine lv_istore (lv' := [(4, .int (nI (j + 0))), (3, .int _), (0, .ref _), (1, .int _), (2, .int _)]) hx hb dX0_catchEarly_56 hl (by decide) rfl (fun ls hl => ?_)
                exact inner (w + 1) j 0 H locs ls hj1 (by omega) hm hW (lv_sub hl [0, 2] rfl)
              · refine lv_goto (tgt := 80) hx hb dX0_catchEarly_52 (by decide) ?_
                refine lv_iinc (v := (nI (j + 1))) (lv' := [(3, .int (nI (j + 1))), (0, .ref _), (1, .int _), (2, .int _)]) hx hb dX0_catchEarly_80 hl (k := 0) rfl (ii1 _) (by decide) rfl (fun ls hl => ?_)
                refine lv_goto (tgt := 4) hx hb dX0_catchEarly_83 (by decide) ?_
                exact ih (j + 1) H locs ls (by omega) (by omega) (lt_s2 hm (fun z => c49 z.2.2.2)) hW (lv_sub hl [0, 1, 2, 3] rfl)
  refine lv_iload_n hx hb dX0_catchEarly_0 rfl (lv_at hl 1 rfl) ?_
  refine lv_iconst (v := 1) hx hb dX0_catchEarly_1 (by decide) ?_
  refine lv_iadd hx hb dX0_catchEarly_2 ?_
  rw [show nI i + 1 = nI (i + 1) from nI_1 i]
  refine lv_istore_n (lv' := [(3, .int (nI (i + 1))), (0, .ref _), (1, .int _), (2, .int _)]) hx hb dX0_catchEarly_3 rfl hl (by decide) rfl (fun ls hl => ?_)
  exact outer (n - (i + 1)) (i + 1) s.heap [] ls (by omega) (by omega) (fun b b1 b2 => by omega) hW (lv_sub hl [0, 1, 2, 3] rfl)
end
section
set_option maxRecDepth 100000
theorem sA_ne (σ : SX) (f k : Nat) (v : Int32) {j : Nat} (h : j ≠ k) : (sA σ f k v).2 f j = σ.2 f j := by
  unfold sA va_up upd
  simp [h]
theorem sA_at (σ : SX) (f k : Nat) (v : Int32) : (sA σ f k v).2 f k = v := by
  unfold sA va_up upd
  simp
theorem sl_lt {s k : Nat} (hs : s ≤ 20) (hk : k ≤ 20) (h : s ≤ k) : nI s - 1 < nI k := by
  match s, hs with
  | 0, _ =>
    have h0 : nI 0 - 1 = -1 := by decide +kernel
    rw [h0]
    exact Int32.lt_iff_toInt_lt.mpr (by rw [nI_toInt (by omega), show (-1 : Int32).toInt = -1 from rfl]; omega)
  | s + 1, _ =>
    rw [nI_pred]
    exact nI_lt (by omega) (by omega)
/-- what finishLoad(k) leaves -/
def flP (σ : SX) (hd k : Nat) (u : SX) : Prop := ∃ f, frm σ.2 hd k (aF σ.2 k) f ∧ ((∃ j, f = nI j ∧ hd ≤ j ∧ j < k ∧ σ.2 13 j ≠ 2 ∧ u = sA σ 16 k (aF σ.2 k)) ∨ ((f = -1 ∨ ∃ j, f = nI j ∧ hd ≤ j ∧ j < k ∧ σ.2 13 j = 2) ∧ u = sA (sA (sA (sA σ 16 k (aF σ.2 k)) 17 k f) 15 k (if f < 0 then σ.2 6 (tn (aF σ.2 k)) else σ.2 15 (tn f))) 13 k 2))
/-- what finishStore(k) leaves -/
def fsP (σ : SX) (n k : Nat) (u : SX) : Prop := (σ.2 16 k < 0 ∧ ∃ l, k < l ∧ l ≤ n ∧ (∀ j, k < j → j < l → ¬ mt (sA σ 16 k (aF σ.2 k)).2 k (aF σ.2 k) j) ∧ u = sbN (sA σ 16 k (aF σ.2 k)) l (n - l)) ∨ (¬ σ.2 16 k < 0 ∧ ¬ dn σ.2 (σ.2 9 k) ∧ u = σ) ∨ (¬ σ.2 16 k < 0 ∧ dn σ.2 (σ.2 9 k) ∧ u = sA (sA σ 15 k (vF σ.2 (σ.2 9 k) (σ.2 2 k))) 13 k 2)
set_option maxHeartbeats 4000000 in
theorem mX0_finishLoad (l : Launch) (D : va_G) (d : Nat → ClassId) (h : Nat → Nat) (σ : SX) {hd k : Nat} (hk : k < 20) (hg : vr (σ.2 10 k) (σ.2 3 k)) (hhd : σ.1 18 = nI hd) (hdk : hd ≤ k) : MXv0 l yX0_finishLoad cX0_finishLoad 5 (rm 2 44) D d h [.int (nI k)] σ (flP σ hd k) := by
  refine MXv0.mk (by decide) rfl (Nat.le_of_ble_eq_true rfl) ?_
  intro p e s m args below meth c A ls Q hQ E hr hlk hW hl
  have hx := E.1
  have hb := E.2.1
  have hl : lv_has ls 5 [(0, .ref (h 0)), (1, .int (nI k))] := hl
  obtain ⟨cn, hc, ec⟩ := aF_nI σ.2 k
  have t65 : ∀ (f : Int32) (H : Heap) (locs : List Loc) (ls : Array Slot), frm σ.2 hd k (nI cn) f → XW0 D d h A s H locs (sA σ 16 k (nI cn)) → lv_has ls 5 [(3, .int f), (2, .int (nI cn)), (0, .ref (h 0)), (1, .int (nI k))] → W p l e (rm 2 44) s m args below meth c H locs 0 0 Q (F0 m 65 ls []) := by
    intro f H locs ls hf hW hl
    rcases hf with ⟨rfl, hf⟩ | ⟨j, j1, j2, rfl, j3, j4, j5⟩
    · refine lv_iload_n hx hb dX0_finishLoad_65 rfl (lv_at hl 0 rfl) ?_
      refine lv_if_lt (tgt := 80) hx hb dX0_finishLoad_66 (by decide) (fun c66 => ?_) (fun c66 => ?_)
      · refine lv_aload_n hx hb dX0_finishLoad_80 rfl (lv_at hl 2 rfl) ?_
        refine xg0_source E hW dX0_finishLoad_81 ?_
        refine lv_iload_n hx hb dX0_finishLoad_84 rfl (lv_at hl 3 rfl) ?_
        refine lv_iload_n hx hb dX0_finishLoad_85 rfl (lv_at hl 0 rfl) ?_
        refine lv_i2b (v := (-1)) hx hb dX0_finishLoad_86 (by decide +kernel) ?_
        refine xs0_source E hW rfl hk nb8m dX0_finishLoad_87 (fun H locs hW => ?_)
        refine lv_aload_n hx hb dX0_finishLoad_88 rfl (lv_at hl 2 rfl) ?_
        refine xg0_result E hW dX0_finishLoad_89 ?_
        refine lv_iload_n hx hb dX0_finishLoad_92 rfl (lv_at hl 3 rfl) ?_
        refine lv_iload_n hx hb dX0_finishLoad_93 rfl (lv_at hl 0 rfl) ?_
        refine lv_if_lt (tgt := 106) hx hb dX0_finishLoad_94 (by decide) (fun c94 => ?_) (fun c94 => ?_)
        · refine lv_aload_n hx hb dX0_finishLoad_106 rfl (lv_at hl 2 rfl) ?_
          refine xg0_cells E hW dX0_finishLoad_107 ?_
          refine lv_iload_n hx hb dX0_finishLoad_110 rfl (lv_at hl 1 rfl) ?_
          refine xl0_cells E hW rfl hc dX0_finishLoad_111 ?_
          refine xs0_result E hW rfl hk dX0_finishLoad_112 (fun H locs hW => ?_)
          refine lv_aload_n hx hb dX0_finishLoad_113 rfl (lv_at hl 2 rfl) ?_
          refine xg0_progress E hW dX0_finishLoad_114 ?_
          refine lv_iload_n hx hb dX0_finishLoad_117 rfl (lv_at hl 3 rfl) ?_
          refine lv_iconst (v := 2) hx hb dX0_finishLoad_118 (by decide) ?_
          refine xs0_progress E hW rfl hk (nb8 (k := 2) (by decide)) dX0_finishLoad_119 (fun H locs hW => ?_)
          exact xvret0 E hW hQ hr hlk dX0_finishLoad_120 (⟨-1, by rw [ec]; exact Or.inl ⟨rfl, hf⟩, Or.inr ⟨Or.inl rfl, by rw [ec, if_pos m1_neg, tn_nI (by omega)] <;> rfl⟩⟩)
        · exact absurd m1_neg c94
      · exact absurd m1_neg c66
    · refine lv_iload_n hx hb dX0_finishLoad_65 rfl (lv_at hl 0 rfl) ?_
      refine lv_if_lt (tgt := 80) hx hb dX0_finishLoad_66 (by decide) (fun c66 => ?_) (fun c66 => ?_)
      · exact absurd c66 (nI_pos (by omega))
      · refine lv_aload_n hx hb dX0_finishLoad_69 rfl (lv_at hl 2 rfl) ?_
        refine xg0_progress E hW dX0_finishLoad_70 ?_
        refine lv_iload_n hx hb dX0_finishLoad_73 rfl (lv_at hl 0 rfl) ?_
        refine xl0_progress E hW rfl (by omega) dX0_finishLoad_74 ?_
        refine lv_iconst (v := 2) hx hb dX0_finishLoad_75 (by decide) ?_
        refine lv_icmp_eq (tgt := 80) hx hb dX0_finishLoad_76 (by decide) (fun c76 => ?_) (fun c76 => ?_)
        · refine lv_aload_n hx hb dX0_finishLoad_80 rfl (lv_at hl 2 rfl) ?_
          refine xg0_source E hW dX0_finishLoad_81 ?_
          refine lv_iload_n hx hb dX0_finishLoad_84 rfl (lv_at hl 3 rfl) ?_
          refine lv_iload_n hx hb dX0_finishLoad_85 rfl (lv_at hl 0 rfl) ?_
          refine lv_i2b (v := (nI j)) hx hb dX0_finishLoad_86 (b8 _ (by omega)) ?_
          refine xs0_source E hW rfl hk (nb8 (by omega)) dX0_finishLoad_87 (fun H locs hW => ?_)
          refine lv_aload_n hx hb dX0_finishLoad_88 rfl (lv_at hl 2 rfl) ?_
          refine xg0_result E hW dX0_finishLoad_89 ?_
          refine lv_iload_n hx hb dX0_finishLoad_92 rfl (lv_at hl 3 rfl) ?_
          refine lv_iload_n hx hb dX0_finishLoad_93 rfl (lv_at hl 0 rfl) ?_
          refine lv_if_lt (tgt := 106) hx hb dX0_finishLoad_94 (by decide) (fun c94 => ?_) (fun c94 => ?_)
          · exact absurd c94 (nI_pos (by omega))
          · refine lv_aload_n hx hb dX0_finishLoad_97 rfl (lv_at hl 2 rfl) ?_
            refine xg0_result E hW dX0_finishLoad_98 ?_
            refine lv_iload_n hx hb dX0_finishLoad_101 rfl (lv_at hl 0 rfl) ?_
            refine xl0_result E hW rfl (by omega) dX0_finishLoad_102 ?_
            refine lv_goto (tgt := 112) hx hb dX0_finishLoad_103 (by decide) ?_
            refine xs0_result E hW rfl hk dX0_finishLoad_112 (fun H locs hW => ?_)
            refine lv_aload_n hx hb dX0_finishLoad_113 rfl (lv_at hl 2 rfl) ?_
            refine xg0_progress E hW dX0_finishLoad_114 ?_
            refine lv_iload_n hx hb dX0_finishLoad_117 rfl (lv_at hl 3 rfl) ?_
            refine lv_iconst (v := 2) hx hb dX0_finishLoad_118 (by decide) ?_
            refine xs0_progress E hW rfl hk (nb8 (k := 2) (by decide)) dX0_finishLoad_119 (fun H locs hW => ?_)
            exact xvret0 E hW hQ hr hlk dX0_finishLoad_120 (⟨nI j, by rw [ec]; exact Or.inr ⟨j, j1, j2, rfl, j3, j4, j5⟩, Or.inr ⟨Or.inr ⟨j, rfl, j1, j2, c76⟩, by rw [ec, if_neg (nI_pos (by omega)), tn_nI (show j < 2 ^ 31 by omega)] <;> rfl⟩⟩)
        · exact xvret0 E hW hQ hr hlk dX0_finishLoad_79 (⟨nI j, by rw [ec]; exact Or.inr ⟨j, j1, j2, rfl, j3, j4, j5⟩, Or.inl ⟨j, rfl, j1, j2, c76, by rw [ec]⟩⟩)
  have loop : ∀ (w : Nat) (H : Heap) (locs : List Loc) (ls : Array Slot), hd + w ≤ k → (∀ i, hd + w ≤ i → i < k → σ.2 1 i = 5 → σ.2 16 i ≠ nI cn) → XW0 D d h A s H locs (sA σ 16 k (nI cn)) → lv_has ls 5 [(4, .int (nI (hd + w) - 1)), (3, .int (-1)), (2, .int (nI cn)), (0, .ref (h 0)), (1, .int (nI k))] → W p l e (rm 2 44) s m args below meth c H locs 0 0 Q (F0 m 21 ls []) := by
    intro w
    induction w with
    | zero =>
      intro H locs ls hj hm hW hl
      have hhd1 : (sA σ 16 k (nI cn)).1 18 = nI hd := hhd
      refine lv_iload hx hb dX0_finishLoad_21 (lv_at hl 0 rfl) ?_
      refine lv_aload_n hx hb dX0_finishLoad_23 rfl (lv_at hl 3 rfl) ?_
      refine xg0_head E hW dX0_finishLoad_24 ?_
      refine lv_icmp_lt (tgt := 65) hx hb dX0_finishLoad_27 (by decide) (fun c27 => ?_) (fun c27 => ?_)
      · exact t65 (-1) _ _ ls (Or.inl ⟨rfl, hm⟩) hW (lv_sub hl [1, 2, 3, 4] rfl)
      · rw [hhd1] at c27
        exact absurd (sl_lt (by omega) (by omega) (Nat.le_refl _)) c27
    | succ w ih =>
      intro H locs ls hj hm hW hl
      have hhd1 : (sA σ 16 k (nI cn)).1 18 = nI hd := hhd
      rw [show nI (hd + (w + 1)) - 1 = nI (hd + w) from nI_pred (hd + w)] at hl
      refine lv_iload hx hb dX0_finishLoad_21 (lv_at hl 0 rfl) ?_
      refine lv_aload_n hx hb dX0_finishLoad_23 rfl (lv_at hl 3 rfl) ?_
      refine xg0_head E hW dX0_finishLoad_24 ?_
      refine lv_icmp_lt (tgt := 65) hx hb dX0_finishLoad_27 (by decide) (fun c27 => ?_) (fun c27 => ?_)
      · rw [hhd1] at c27
        exact absurd c27 (nI_nlt (by omega) (by omega))
      · refine lv_iload_n hx hb dX0_finishLoad_30 rfl (lv_at hl 1 rfl) ?_
        refine lv_if_ge (tgt := 65) hx hb dX0_finishLoad_31 (by decide) (fun c31 => ?_) (fun c31 => ?_)
        · exact absurd c31 (by decide)
        · refine lv_aload_n hx hb dX0_finishLoad_34 rfl (lv_at hl 3 rfl) ?_
          refine xg0_opcode E hW dX0_finishLoad_35 ?_
          refine lv_iload hx hb dX0_finishLoad_38 (lv_at hl 0 rfl) ?_
          refine xl0_opcode E hW rfl (show hd + w < 20 by omega) dX0_finishLoad_40 ?_
          refine lv_iconst (v := 5) hx hb dX0_finishLoad_41 (by decide) ?_
          refine lv_icmp_ne (tgt := 59) hx hb dX0_finishLoad_42 (by decide) (fun c42 => ?_) (fun c42 => ?_)
          · refine lv_iinc (v := (nI (hd + w) - 1)) (lv' := [(4, .int (nI (hd + w) - 1)), (3, .int _), (2, .int _), (0, .ref _), (1, .int _)]) hx hb dX0_finishLoad_59 hl (k := 0) rfl (sub1 _) (by decide) rfl (fun ls hl => ?_)
            refine lv_goto (tgt := 21) hx hb dX0_finishLoad_62 (by decide) ?_
            refine ih _ _ ls (by omega) (fun i i1 i2 i3 i4 => ?_) hW (lv_sub hl [0, 1, 2, 3, 4] rfl)
            by_cases hi : i = hd + w
            · subst hi
              exact c42 i3
            · exact hm i (by omega) i2 i3 i4
          · refine lv_aload_n hx hb dX0_finishLoad_45 rfl (lv_at hl 3 rfl) ?_
            refine xg0_cellOf E hW dX0_finishLoad_46 ?_
            refine lv_iload hx hb dX0_finishLoad_49 (lv_at hl 0 rfl) ?_
            refine xl0_cellOf E hW rfl (show hd + w < 20 by omega) dX0_finishLoad_51 ?_
            refine lv_iload_n hx hb dX0_finishLoad_52 rfl (lv_at hl 2 rfl) ?_
            refine lv_icmp_ne (tgt := 59) hx hb dX0_finishLoad_53 (by decide) (fun c53 => ?_) (fun c53 => ?_)
            · refine lv_iinc (v := (nI (hd + w) - 1)) (lv' := [(4, .int (nI (hd + w) - 1)), (3, .int _), (2, .int _), (0, .ref _), (1, .int _)]) hx hb dX0_finishLoad_59 hl (k := 0) rfl (sub1 _) (by decide) rfl (fun ls hl => ?_)
              refine lv_goto (tgt := 21) hx hb dX0_finishLoad_62 (by decide) ?_
              refine ih _ _ ls (by omega) (fun i i1 i2 i3 i4 => ?_) hW (lv_sub hl [0, 1, 2, 3, 4] rfl)
              by_cases hi : i = hd + w
              · subst hi
                exact c53 (by rw [sA_ne _ _ _ _ (by omega)]; exact i4)
              · exact hm i (by omega) i2 i3 i4
            · rw [sA_ne _ _ _ _ (by omega)] at c53
              have hfr : frm σ.2 hd k (nI cn) (nI (hd + w)) := Or.inr ⟨hd + w, by omega, by omega, rfl, c42, c53, fun i i1 i2 => hm i (by omega) i2⟩
              refine lv_iload hx hb dX0_finishLoad_56 (lv_at hl 0 rfl) ?_
              refine lv_istore_n (lv' := [(3, .int (nI (hd + w))), (4, .int _), (2, .int _), (0, .ref _), (1, .int _)]) hx hb dX0_finishLoad_58 rfl hl (by decide) rfl (fun ls hl => ?_)
              refine lv_iinc (v := (nI (hd + w) - 1)) (lv' := [(4, .int (nI (hd + w) - 1)), (3, .int _), (2, .int _), (0, .ref _), (1, .int _)]) hx hb dX0_finishLoad_59 hl (k := 1) rfl (sub1 _) (by decide) rfl (fun ls hl => ?_)
              refine lv_goto (tgt := 21) hx hb dX0_finishLoad_62 (by decide) ?_
              refine lv_iload hx hb dX0_finishLoad_21 (lv_at hl 0 rfl) ?_
              refine lv_aload_n hx hb dX0_finishLoad_23 rfl (lv_at hl 3 rfl) ?_
              refine xg0_head E hW dX0_finishLoad_24 ?_
              refine lv_icmp_lt (tgt := 65) hx hb dX0_finishLoad_27 (by decide) (fun c27 => ?_) (fun c27 => ?_)
              · exact t65 _ _ _ ls hfr hW (lv_sub hl [1, 2, 3, 4] rfl)
              · refine lv_iload_n hx hb dX0_finishLoad_30 rfl (lv_at hl 1 rfl) ?_
                refine lv_if_ge (tgt := 65) hx hb dX0_finishLoad_31 (by decide) (fun c31 => ?_) (fun c31 => ?_)
                · exact t65 _ _ _ ls hfr hW (lv_sub hl [1, 2, 3, 4] rfl)
                · exact absurd (nI_pos' (by omega)) c31
  refine lv_aload_n hx hb dX0_finishLoad_0 rfl (lv_at hl 0 rfl) ?_
  refine lv_iload_n hx hb dX0_finishLoad_1 rfl (lv_at hl 1 rfl) ?_
  refine xci0 (n := 1) (mX0_addressOf l D d h σ hk hg) E hW (lw_V q145 q147 qs9 q19 q148) ⟨rfl, rfl⟩ (by decide +kernel) ⟨Nat.le_of_ble_eq_true rfl, Nat.le_of_ble_eq_true rfl⟩ rfl hl.1 rfl (Nat.le_of_ble_eq_true rfl) dX0_finishLoad_2 (fun r u H locs hp hW => ?_)
  obtain ⟨hu, er⟩ := hp
  have hW := hw_u hu hW
  have er := er.trans ec
  subst er
  refine lv_istore_n (lv' := [(2, .int _), (0, .ref _), (1, .int _)]) hx hb dX0_finishLoad_5 rfl hl (by decide) rfl (fun ls hl => ?_)
  refine lv_aload_n hx hb dX0_finishLoad_6 rfl (lv_at hl 1 rfl) ?_
  refine xg0_cellOf E hW dX0_finishLoad_7 ?_
  refine lv_iload_n hx hb dX0_finishLoad_10 rfl (lv_at hl 2 rfl) ?_
  refine lv_iload_n hx hb dX0_finishLoad_11 rfl (lv_at hl 0 rfl) ?_
  refine lv_i2b (v := (nI cn)) hx hb dX0_finishLoad_12 (b8 _ (by omega)) ?_
  refine xs0_cellOf E hW rfl hk (nb8 (by omega)) dX0_finishLoad_13 (fun H locs hW => ?_)
  refine lv_iconst (v := (-1)) hx hb dX0_finishLoad_14 (by decide) ?_
  refine lv_istore_n (lv' := [(3, .int _), (2, .int _), (0, .ref _), (1, .int _)]) hx hb dX0_finishLoad_15 rfl hl (by decide) rfl (fun ls hl => ?_)
  refine lv_iload_n hx hb dX0_finishLoad_16 rfl (lv_at hl 3 rfl) ?_
  refine lv_iconst (v := 1) hx hb dX0_finishLoad_17 (by decide) ?_
  refine lv_isub hx hb dX0_finishLoad_18 ?_
  refine lv_istore (lv' := [(4, .int _), (3, .int _), (2, .int _), (0, .ref _), (1, .int _)]) hx hb dX0_finishLoad_19 hl (by decide) rfl (fun ls hl => ?_)
  refine loop (k - hd) _ _ ls (by omega) (fun i i1 i2 => by omega) hW ?_
  rw [show hd + (k - hd) = k by omega]
  exact (lv_sub hl [0, 1, 2, 3, 4] rfl)
set_option maxHeartbeats 4000000 in
theorem mX0_finishStore (l : Launch) (D : va_G) (d : Nat → ClassId) (h : Nat → Nat) (σ : SX) {n k : Nat} (hn : n ≤ 20) (hln : σ.1 0 = nI n) (hkn : k < n) (hg : vr (σ.2 10 k) (σ.2 3 k)) (hgx : vr (σ.2 9 k) (σ.2 2 k)) : MXv0 l yX0_finishStore cX0_finishStore 3 (rm 2 45) D d h [.int (nI k)] σ (fsP σ n k) := by
  refine MXv0.mk (by decide) rfl (Nat.le_of_ble_eq_true rfl) ?_
  intro p e s m args below meth c A ls Q hQ E hr hlk hW hl
  have hx := E.1
  have hb := E.2.1
  have hl : lv_has ls 3 [(0, .ref (h 0)), (1, .int (nI k))] := hl
  have hk : k < 20 := by omega
  obtain ⟨cn, hc, ec⟩ := aF_nI σ.2 k
  refine lv_aload_n hx hb dX0_finishStore_0 rfl (lv_at hl 0 rfl) ?_
  refine xg0_cellOf E hW dX0_finishStore_1 ?_
  refine lv_iload_n hx hb dX0_finishStore_4 rfl (lv_at hl 1 rfl) ?_
  refine xl0_cellOf E hW rfl hk dX0_finishStore_5 ?_
  refine lv_if_ge (tgt := 30) hx hb dX0_finishStore_6 (by decide) (fun c6 => ?_) (fun c6 => ?_)
  · have c6 : ¬ σ.2 16 k < 0 := i_nlt c6
    refine lv_aload_n hx hb dX0_finishStore_30 rfl (lv_at hl 0 rfl) ?_
    refine lv_aload_n hx hb dX0_finishStore_31 rfl (lv_at hl 0 rfl) ?_
    refine xg0_giverX E hW dX0_finishStore_32 ?_
    refine lv_iload_n hx hb dX0_finishStore_35 rfl (lv_at hl 1 rfl) ?_
    refine xl0_giverX E hW rfl hk dX0_finishStore_36 ?_
    refine xci0 (n := 1) (mX0_isThere l D d h σ (vr_g hgx)) E hW (lw_V q137 q139 qs7 q19 q140) ⟨rfl, rfl⟩ (by decide +kernel) ⟨Nat.le_of_ble_eq_true rfl, Nat.le_of_ble_eq_true rfl⟩ rfl hl.1 rfl (Nat.le_of_ble_eq_true rfl) dX0_finishStore_37 (fun r u H locs hp hW => ?_)
    obtain ⟨hu, er⟩ := hp
    have hW := hw_u hu hW
    refine lv_if_ne (tgt := 44) hx hb dX0_finishStore_40 (by decide) (fun c40 => ?_) (fun c40 => ?_)
    · have hy : dn σ.2 (σ.2 9 k) := by
        rcases er with y | y
        · exact y.2
        · exact absurd y.1 c40
      refine lv_aload_n hx hb dX0_finishStore_44 rfl (lv_at hl 0 rfl) ?_
      refine xg0_result E hW dX0_finishStore_45 ?_
      refine lv_iload_n hx hb dX0_finishStore_48 rfl (lv_at hl 1 rfl) ?_
      refine lv_aload_n hx hb dX0_finishStore_49 rfl (lv_at hl 0 rfl) ?_
      refine lv_aload_n hx hb dX0_finishStore_50 rfl (lv_at hl 0 rfl) ?_
      refine xg0_giverX E hW dX0_finishStore_51 ?_
      refine lv_iload_n hx hb dX0_finishStore_54 rfl (lv_at hl 1 rfl) ?_
      refine xl0_giverX E hW rfl hk dX0_finishStore_55 ?_
      refine lv_aload_n hx hb dX0_finishStore_56 rfl (lv_at hl 0 rfl) ?_
      refine xg0_fieldX E hW dX0_finishStore_57 ?_
      refine lv_iload_n hx hb dX0_finishStore_60 rfl (lv_at hl 1 rfl) ?_
      refine xl0_fieldX E hW rfl hk dX0_finishStore_61 ?_
      refine xci0 (n := 2) (mX0_valueFrom l D d h σ hgx) E hW (lw_V q149 q151 qs10 q19 q152) ⟨rfl, rfl⟩ (by decide +kernel) ⟨Nat.le_of_ble_eq_true rfl, Nat.le_of_ble_eq_true rfl⟩ rfl hl.1 rfl (Nat.le_of_ble_eq_true rfl) dX0_finishStore_62 (fun r u H locs hp hW => ?_)
      obtain ⟨hu, er⟩ := hp
      have hW := hw_u hu hW
      subst er
      refine xs0_result E hW rfl hk dX0_finishStore_65 (fun H locs hW => ?_)
      refine lv_aload_n hx hb dX0_finishStore_66 rfl (lv_at hl 0 rfl) ?_
      refine xg0_progress E hW dX0_finishStore_67 ?_
      refine lv_iload_n hx hb dX0_finishStore_70 rfl (lv_at hl 1 rfl) ?_
      refine lv_iconst (v := 2) hx hb dX0_finishStore_71 (by decide) ?_
      refine xs0_progress E hW rfl hk (nb8 (k := 2) (by decide)) dX0_finishStore_72 (fun H locs hW => ?_)
      exact xvret0 E hW hQ hr hlk dX0_finishStore_73 (Or.inr (Or.inr ⟨c6, hy, rfl⟩))
    · have hy : ¬ dn σ.2 (σ.2 9 k) := by
        rcases er with y | y
        · rw [y.1] at c40; exact absurd c40 (by decide)
        · exact y.2
      exact xvret0 E hW hQ hr hlk dX0_finishStore_43 (Or.inr (Or.inl ⟨c6, hy, rfl⟩))
  · have c6 : σ.2 16 k < 0 := Int32.not_le.mp c6
    refine lv_aload_n hx hb dX0_finishStore_9 rfl (lv_at hl 0 rfl) ?_
    refine lv_iload_n hx hb dX0_finishStore_10 rfl (lv_at hl 1 rfl) ?_
    refine xci0 (n := 1) (mX0_addressOf l D d h σ hk hg) E hW (lw_V q145 q147 qs9 q19 q148) ⟨rfl, rfl⟩ (by decide +kernel) ⟨Nat.le_of_ble_eq_true rfl, Nat.le_of_ble_eq_true rfl⟩ rfl hl.1 rfl (Nat.le_of_ble_eq_true rfl) dX0_finishStore_11 (fun r u H locs hp hW => ?_)
    obtain ⟨hu, er⟩ := hp
    have hW := hw_u hu hW
    have er := er.trans ec
    subst er
    refine lv_istore_n (lv' := [(2, .int _), (0, .ref _), (1, .int _)]) hx hb dX0_finishStore_14 rfl hl (by decide) rfl (fun ls hl => ?_)
    refine lv_aload_n hx hb dX0_finishStore_15 rfl (lv_at hl 1 rfl) ?_
    refine xg0_cellOf E hW dX0_finishStore_16 ?_
    refine lv_iload_n hx hb dX0_finishStore_19 rfl (lv_at hl 2 rfl) ?_
    refine lv_iload_n hx hb dX0_finishStore_20 rfl (lv_at hl 0 rfl) ?_
    refine lv_i2b (v := (nI cn)) hx hb dX0_finishStore_21 (b8 _ (by omega)) ?_
    refine xs0_cellOf E hW rfl hk (nb8 (by omega)) dX0_finishStore_22 (fun H locs hW => ?_)
    refine lv_aload_n hx hb dX0_finishStore_23 rfl (lv_at hl 1 rfl) ?_
    refine lv_iload_n hx hb dX0_finishStore_24 rfl (lv_at hl 2 rfl) ?_
    refine lv_iload_n hx hb dX0_finishStore_25 rfl (lv_at hl 0 rfl) ?_
    refine xcv0 (n := 2) (mX0_catchEarly l D d h (sA σ 16 k (nI cn)) (nI cn) hn hln hkn) E hW (lw_V q157 q159 qs12 q19 q160) ⟨rfl, rfl⟩ (by decide +kernel) ⟨Nat.le_of_ble_eq_true rfl, Nat.le_of_ble_eq_true rfl⟩ rfl hl.1 rfl (Nat.le_of_ble_eq_true rfl) dX0_finishStore_26 (fun u H locs hp hW => ?_)
    obtain ⟨l, l1, l2, l3, l4⟩ := hp
    exact xvret0 E hW hQ hr hlk dX0_finishStore_29 (Or.inl ⟨c6, l, l1, l2, by rw [ec]; exact l3, by rw [ec]; exact l4⟩)
/-- the object's registers, memory, flags and count are those of one instruction after the other -/
def TRq (σ : SX) (T : Sq) : Prop := σ.2 5 = T.1 ∧ σ.2 6 = T.2.1 ∧ wbk (σ.1 8) T.2.2.1 ∧ σ.1 7 = T.2.2.2
def teP (σ : SX) (n hd : Nat) (T : Sq) (u : SX) : Prop := Inv u.2 n (hd + 1) ∧ same7 σ.2 u.2 ∧ (∀ j, eqAt σ.2 u.2 j) ∧ u.1 0 = σ.1 0 ∧ u.1 18 = nI (hd + 1) ∧ TRq u (sqStep (σ.2 1) (σ.2 2) (σ.2 3) (σ.2 4) hd T)
theorem te_5 {σ : SX} {n hd c : Nat} {T : Sq} {w8 v18 : Int32} (h : Inv σ.2 n hd) (hn : hd < n) (hp : σ.2 13 hd = 2) (hT : TRq σ T) (c5 : σ.2 1 hd = 5) (hc : c < 16) (ec : σ.2 16 hd = nI c) (e8 : w8 = σ.1 8 ||| ((1 : Int32) <<< (σ.2 16 hd &&& 31))) (e18 : v18 = nI (hd + 1)) : teP σ n hd T (sI (sI (sA σ 6 c (σ.2 15 hd)) 8 w8) 18 v18) := by
  subst e18
  obtain ⟨et, -, e15⟩ := head_5 h hn hp c5
  obtain ⟨t1, t2, t3, t4⟩ := hT
  rw [ec] at e8
  rw [ec, tn_nI (by omega)] at et
  refine ⟨inv_take h hn hp ⟨rfl, rfl, rfl, rfl, rfl, rfl, rfl⟩ (fun j => ⟨rfl, rfl, rfl, rfl, rfl⟩) (fun _ => ⟨rfl, ?_⟩) (fun z => absurd c5 z), ⟨rfl, rfl, rfl, rfl, rfl, rfl, rfl⟩, fun j => ⟨rfl, rfl, rfl, rfl, rfl⟩, rfl, rfl, ?_⟩
  · show upd (σ.2 6) c (σ.2 15 hd) = _
    rw [ec, tn_nI (by omega)]
  · unfold sqStep
    rw [if_neg (by rw [c5]; decide), if_pos c5]
    refine ⟨t1, ?_, ?_, t4⟩
    · show upd (σ.2 6) c (σ.2 15 hd) = upd T.2.1 (sqC (σ.2 3) (σ.2 4) T.1 hd) (T.1 (tn (σ.2 2 hd)))
      rw [← t1, ← t2, ← et, e15]
    · show wbk w8 (upd T.2.2.1 (sqC (σ.2 3) (σ.2 4) T.1 hd) 1)
      rw [← t1, ← et, e8]
      exact wbk_or hc t3
theorem te_p {σ : SX} {n hd r : Nat} {T : Sq} {v18 : Int32} (h : Inv σ.2 n hd) (hn : hd < n) (hp : σ.2 13 hd = 2) (hT : TRq σ T) (c4 : σ.2 1 hd ≠ 4) (c5 : σ.2 1 hd ≠ 5) (hr : r < 6) (er : σ.2 2 hd = nI r) (e18 : v18 = nI (hd + 1)) : teP σ n hd T (sI (sA σ 5 r (σ.2 15 hd)) 18 v18) := by
  subst e18
  have e15 := head_p h hn hp c4 c5
  obtain ⟨t1, t2, t3, t4⟩ := hT
  have et : tn (σ.2 2 hd) = r := by rw [er, tn_nI (by omega)]
  refine ⟨inv_take h hn hp ⟨rfl, rfl, rfl, rfl, rfl, rfl, rfl⟩ (fun j => ⟨rfl, rfl, rfl, rfl, rfl⟩) (fun z => absurd z c5) (fun _ => ⟨?_, rfl⟩), ⟨rfl, rfl, rfl, rfl, rfl, rfl, rfl⟩, fun j => ⟨rfl, rfl, rfl, rfl, rfl⟩, rfl, rfl, ?_⟩
  · show upd (σ.2 5) r (σ.2 15 hd) = _
    rw [et]
  · unfold sqStep
    rw [if_neg c4, if_neg c5]
    refine ⟨?_, t2, t3, t4⟩
    show upd (σ.2 5) r (σ.2 15 hd) = upd T.1 (tn (σ.2 2 hd)) (sqV (σ.2 1) (σ.2 2) (σ.2 3) (σ.2 4) T.1 hd)
    rw [← t1, et, e15]
theorem te_4 {σ σ1 : SX} {n hd r : Nat} {T : Sq} {v18 : Int32} (h : Inv σ.2 n hd) (hn : hd < n) (hp : σ.2 13 hd = 2) (hT : TRq σ T) (c4 : σ.2 1 hd = 4) (hr : r < 6) (er : σ.2 2 hd = nI r) (e18 : v18 = nI (hd + 1)) (e1 : σ1.2 = (sA σ 5 r (σ.2 15 hd)).2) (e0 : σ1.1 0 = σ.1 0) (e8 : σ1.1 8 = σ.1 8)
    (e7 : σ1.1 7 = if (σ.1 8 >>> (σ.2 16 hd &&& 31)) &&& 1 = 0 then σ.1 7 else σ.1 7 + 1) : teP σ n hd T (sI σ1 18 v18) := by
  subst e18
  obtain ⟨et, ⟨c, hc, ec⟩, e15⟩ := head_4 h hn hp c4
  have c5 : σ.2 1 hd ≠ 5 := by rw [c4]; decide
  obtain ⟨t1, t2, t3, t4⟩ := hT
  have etr : tn (σ.2 2 hd) = r := by rw [er, tn_nI (by omega)]
  rw [ec, tn_nI (by omega)] at et
  rw [ec, t3 c hc] at e7
  have e1' : (sI σ1 18 (nI (hd + 1))).2 = (sA σ 5 r (σ.2 15 hd)).2 := e1
  refine ⟨?_, ?_, ?_, e0, rfl, ?_⟩
  · rw [e1']
    refine inv_take h hn hp ⟨rfl, rfl, rfl, rfl, rfl, rfl, rfl⟩ (fun j => ⟨rfl, rfl, rfl, rfl, rfl⟩) (fun z => absurd z c5) (fun _ => ⟨?_, rfl⟩)
    show upd (σ.2 5) r (σ.2 15 hd) = _
    rw [etr]
  · rw [e1']; exact ⟨rfl, rfl, rfl, rfl, rfl, rfl, rfl⟩
  · rw [e1']; exact fun j => ⟨rfl, rfl, rfl, rfl, rfl⟩
  · unfold sqStep
    rw [if_pos c4]
    refine ⟨?_, ?_, ?_, ?_⟩
    · rw [e1']
      show upd (σ.2 5) r (σ.2 15 hd) = upd T.1 (tn (σ.2 2 hd)) (T.2.1 (sqC (σ.2 3) (σ.2 4) T.1 hd))
      rw [← t1, etr, ← t2, e15]
    · rw [e1']; exact t2
    · show wbk (σ1.1 8) T.2.2.1
      rw [e8]; exact t3
    · show σ1.1 7 = if T.2.2.1 (sqC (σ.2 3) (σ.2 4) T.1 hd) = 0 then T.2.2.2 else T.2.2.2 + 1
      rw [← t1, ← et, ← t4]; exact e7
set_option maxHeartbeats 4000000 in
theorem mX0_takeEffect (l : Launch) (D : va_G) (d : Nat → ClassId) (h : Nat → Nat) (σ : SX) {n hd : Nat} {T : Sq} (hI : Inv σ.2 n hd) (hn : hd < n) (hhd : σ.1 18 = nI hd) (hp : σ.2 13 hd = 2) (hT : TRq σ T) : MXv0 l yX0_takeEffect cX0_takeEffect 3 (rm 0 0) D d h [] σ (teP σ n hd T) := by
  refine MXv0.mk (by decide) rfl (Nat.le_of_ble_eq_true rfl) ?_
  intro p e s m args below meth c A ls Q hQ E hr hlk hW hl
  have hx := E.1
  have hb := E.2.1
  have hl : lv_has ls 3 [(0, .ref (h 0))] := hl
  have hk : hd < 20 := Nat.lt_of_lt_of_le hn hI.2.1
  obtain ⟨r, hr6, er⟩ := (hI.2.2.1 hd hn).2.1
  have e18 : σ.1 18 + 1 = nI (hd + 1) := by rw [hhd]; exact nI_1 hd
  refine lv_aload_n hx hb dX0_takeEffect_0 rfl (lv_at hl 0 rfl) ?_
  refine xg0_head E hW dX0_takeEffect_1 ?_
  rw [hhd]
  refine lv_istore_n (lv' := [(1, .int (nI hd)), (0, .ref _)]) hx hb dX0_takeEffect_4 rfl hl (by decide) rfl (fun ls hl => ?_)
  refine lv_aload_n hx hb dX0_takeEffect_5 rfl (lv_at hl 1 rfl) ?_
  refine xg0_cellOf E hW dX0_takeEffect_6 ?_
  refine lv_iload_n hx hb dX0_takeEffect_9 rfl (lv_at hl 0 rfl) ?_
  refine xl0_cellOf E hW rfl hk dX0_takeEffect_10 ?_
  refine lv_istore_n (lv' := [(2, .int (σ.2 16 hd)), (1, .int _), (0, .ref _)]) hx hb dX0_takeEffect_11 rfl hl (by decide) rfl (fun ls hl => ?_)
  refine lv_aload_n hx hb dX0_takeEffect_12 rfl (lv_at hl 2 rfl) ?_
  refine xg0_opcode E hW dX0_takeEffect_13 ?_
  refine lv_iload_n hx hb dX0_takeEffect_16 rfl (lv_at hl 1 rfl) ?_
  refine xl0_opcode E hW rfl hk dX0_takeEffect_17 ?_
  refine lv_iconst (v := 5) hx hb dX0_takeEffect_18 (by decide) ?_
  refine lv_icmp_ne (tgt := 49) hx hb dX0_takeEffect_19 (by decide) (fun c19 => ?_) (fun c19 => ?_)
  · refine lv_aload_n hx hb dX0_takeEffect_49 rfl (lv_at hl 2 rfl) ?_
    refine xg0_registers E hW dX0_takeEffect_50 ?_
    refine lv_aload_n hx hb dX0_takeEffect_53 rfl (lv_at hl 2 rfl) ?_
    refine xg0_fieldX E hW dX0_takeEffect_54 ?_
    refine lv_iload_n hx hb dX0_takeEffect_57 rfl (lv_at hl 1 rfl) ?_
    refine xl0_fieldX E hW rfl hk dX0_takeEffect_58 ?_
    refine lv_aload_n hx hb dX0_takeEffect_59 rfl (lv_at hl 2 rfl) ?_
    refine xg0_result E hW dX0_takeEffect_60 ?_
    refine lv_iload_n hx hb dX0_takeEffect_63 rfl (lv_at hl 1 rfl) ?_
    refine xl0_result E hW rfl hk dX0_takeEffect_64 ?_
    refine xs0_registers E hW er hr6 dX0_takeEffect_65 (fun H locs hW => ?_)
    refine lv_aload_n hx hb dX0_takeEffect_66 rfl (lv_at hl 2 rfl) ?_
    refine xg0_opcode E hW dX0_takeEffect_67 ?_
    refine lv_iload_n hx hb dX0_takeEffect_70 rfl (lv_at hl 1 rfl) ?_
    refine xl0_opcode E hW rfl hk dX0_takeEffect_71 ?_
    refine lv_iconst (v := 4) hx hb dX0_takeEffect_72 (by decide) ?_
    refine lv_icmp_ne (tgt := 97) hx hb dX0_takeEffect_73 (by decide) (fun c73 => ?_) (fun c73 => ?_)
    · refine lv_aload_n hx hb dX0_takeEffect_97 rfl (lv_at hl 2 rfl) ?_
      refine lv_dup hx hb dX0_takeEffect_98 rfl ?_
      refine xg0_head E hW dX0_takeEffect_99 ?_
      refine lv_iconst (v := 1) hx hb dX0_takeEffect_102 (by decide) ?_
      refine lv_iadd hx hb dX0_takeEffect_103 ?_
      refine xp0_head E hW dX0_takeEffect_104 (fun H locs hW => ?_)
      exact xvret0 E hW hQ hr hlk dX0_takeEffect_107 (te_p hI hn hp hT c73 c19 hr6 er e18)
    · refine lv_aload_n hx hb dX0_takeEffect_76 rfl (lv_at hl 2 rfl) ?_
      refine xg0_writtenCells E hW dX0_takeEffect_77 ?_
      refine lv_iload_n hx hb dX0_takeEffect_80 rfl (lv_at hl 0 rfl) ?_
      refine lv_ishr hx hb dX0_takeEffect_81 ?_
      refine lv_iconst (v := 1) hx hb dX0_takeEffect_82 (by decide) ?_
      refine lv_iand hx hb dX0_takeEffect_83 ?_
      refine lv_if_eq (tgt := 97) hx hb dX0_takeEffect_84 (by decide) (fun c84 => ?_) (fun c84 => ?_)
      · refine lv_aload_n hx hb dX0_takeEffect_97 rfl (lv_at hl 2 rfl) ?_
        refine lv_dup hx hb dX0_takeEffect_98 rfl ?_
        refine xg0_head E hW dX0_takeEffect_99 ?_
        refine lv_iconst (v := 1) hx hb dX0_takeEffect_102 (by decide) ?_
        refine lv_iadd hx hb dX0_takeEffect_103 ?_
        refine xp0_head E hW dX0_takeEffect_104 (fun H locs hW => ?_)
        exact xvret0 E hW hQ hr hlk dX0_takeEffect_107 (te_4 (σ1 := sA σ 5 r (σ.2 15 hd)) hI hn hp hT c73 hr6 er e18 rfl rfl rfl (by have z : (σ.1 8 >>> (σ.2 16 hd &&& 31)) &&& 1 = 0 := c84; rw [if_pos z] <;> rfl))
      · refine lv_aload_n hx hb dX0_takeEffect_87 rfl (lv_at hl 2 rfl) ?_
        refine lv_dup hx hb dX0_takeEffect_88 rfl ?_
        refine xg0_fedCount E hW dX0_takeEffect_89 ?_
        refine lv_iconst (v := 1) hx hb dX0_takeEffect_92 (by decide) ?_
        refine lv_iadd hx hb dX0_takeEffect_93 ?_
        refine xp0_fedCount E hW dX0_takeEffect_94 (fun H locs hW => ?_)
        refine lv_aload_n hx hb dX0_takeEffect_97 rfl (lv_at hl 2 rfl) ?_
        refine lv_dup hx hb dX0_takeEffect_98 rfl ?_
        refine xg0_head E hW dX0_takeEffect_99 ?_
        refine lv_iconst (v := 1) hx hb dX0_takeEffect_102 (by decide) ?_
        refine lv_iadd hx hb dX0_takeEffect_103 ?_
        refine xp0_head E hW dX0_takeEffect_104 (fun H locs hW => ?_)
        exact xvret0 E hW hQ hr hlk dX0_takeEffect_107 (te_4 (σ1 := sI (sA σ 5 r (σ.2 15 hd)) 7 (σ.1 7 + 1)) hI hn hp hT c73 hr6 er e18 rfl rfl rfl (by have z : ¬ (σ.1 8 >>> (σ.2 16 hd &&& 31)) &&& 1 = 0 := c84; rw [if_neg z] <;> rfl))
  · obtain ⟨-, ⟨c0, hc, ec⟩, -⟩ := head_5 hI hn hp c19
    refine lv_aload_n hx hb dX0_takeEffect_22 rfl (lv_at hl 2 rfl) ?_
    refine xg0_cells E hW dX0_takeEffect_23 ?_
    refine lv_iload_n hx hb dX0_takeEffect_26 rfl (lv_at hl 0 rfl) ?_
    refine lv_aload_n hx hb dX0_takeEffect_27 rfl (lv_at hl 2 rfl) ?_
    refine xg0_result E hW dX0_takeEffect_28 ?_
    refine lv_iload_n hx hb dX0_takeEffect_31 rfl (lv_at hl 1 rfl) ?_
    refine xl0_result E hW rfl hk dX0_takeEffect_32 ?_
    refine xs0_cells E hW ec hc dX0_takeEffect_33 (fun H locs hW => ?_)
    refine lv_aload_n hx hb dX0_takeEffect_34 rfl (lv_at hl 2 rfl) ?_
    refine lv_dup hx hb dX0_takeEffect_35 rfl ?_
    refine xg0_writtenCells E hW dX0_takeEffect_36 ?_
    refine lv_iconst (v := 1) hx hb dX0_takeEffect_39 (by decide) ?_
    refine lv_iload_n hx hb dX0_takeEffect_40 rfl (lv_at hl 0 rfl) ?_
    refine lv_ishl hx hb dX0_takeEffect_41 ?_
    refine lv_ior hx hb dX0_takeEffect_42 ?_
    refine xp0_writtenCells E hW dX0_takeEffect_43 (fun H locs hW => ?_)
    refine lv_goto (tgt := 66) hx hb dX0_takeEffect_46 (by decide) ?_
    refine lv_aload_n hx hb dX0_takeEffect_66 rfl (lv_at hl 2 rfl) ?_
    refine xg0_opcode E hW dX0_takeEffect_67 ?_
    refine lv_iload_n hx hb dX0_takeEffect_70 rfl (lv_at hl 1 rfl) ?_
    refine xl0_opcode E hW rfl hk dX0_takeEffect_71 ?_
    refine lv_iconst (v := 4) hx hb dX0_takeEffect_72 (by decide) ?_
    refine lv_icmp_ne (tgt := 97) hx hb dX0_takeEffect_73 (by decide) (fun c73 => ?_) (fun c73 => ?_)
    · refine lv_aload_n hx hb dX0_takeEffect_97 rfl (lv_at hl 2 rfl) ?_
      refine lv_dup hx hb dX0_takeEffect_98 rfl ?_
      refine xg0_head E hW dX0_takeEffect_99 ?_
      refine lv_iconst (v := 1) hx hb dX0_takeEffect_102 (by decide) ?_
      refine lv_iadd hx hb dX0_takeEffect_103 ?_
      refine xp0_head E hW dX0_takeEffect_104 (fun H locs hW => ?_)
      exact xvret0 E hW hQ hr hlk dX0_takeEffect_107 (te_5 hI hn hp hT c19 hc ec rfl e18)
    · have c73 : σ.2 1 hd = 4 := c73
      rw [c19] at c73
      exact absurd c73 (by decide)
end
section
set_option maxRecDepth 100000
/-! ===== who gives what ===== -/
theorem lwr_nar (op x : Nat → Int32) (r : Nat) : ∀ k, k ≤ 20 → vp_nar .byte (lwr op x k r) = lwr op x k r := by
  intro k hk
  rcases gs_lt (lwr_gs op x r k) with h | ⟨j, hj, e⟩
  · rcases lwr_gs op x r k with ⟨e, -⟩ | ⟨j, hj, e, -⟩
    · rw [e]; exact nb8m
    · rw [e]; exact nb8 (by omega)
  · rw [e]; exact nb8 (by omega)
/-- the givers of the instruction j, written down -/
def gvr (a b : Nat → Nat → Int32) (j : Nat) : Prop := b 9 j = lwr (a 1) (a 2) j (tn (a 2 j)) ∧ (a 1 j ≠ 0 → b 10 j = lwr (a 1) (a 2) j (tn (a 3 j))) ∧ (a 1 j = 0 → b 10 j = -1) ∧ (thr (a 1 j) → b 11 j = lwr (a 1) (a 2) j (tn (a 4 j))) ∧ (¬ thr (a 1 j) → b 11 j = -1)
def FGk (σ : SX) (k : Nat) (u : SX) : Prop := u.1 = σ.1 ∧ (∀ f, f ≠ 9 → f ≠ 10 → f ≠ 11 → f ≠ 12 → u.2 f = σ.2 f) ∧ (∀ r, r < 6 → u.2 12 r = lwr (σ.2 1) (σ.2 2) k r) ∧ (∀ j, j < k → gvr σ.2 u.2 j)
/-- what findGivers leaves -/
def fgP (σ : SX) (n : Nat) (u : SX) : Prop := u.1 = σ.1 ∧ (∀ f, f ≠ 9 → f ≠ 10 → f ≠ 11 → f ≠ 12 → u.2 f = σ.2 f) ∧ gv_ok u.2 n
theorem fg_end {σ u : SX} {n : Nat} (h : FGk σ n u) : fgP σ n u := by
  obtain ⟨h1, h2, h3, h4⟩ := h
  refine ⟨h1, h2, ?_⟩
  have e1 : u.2 1 = σ.2 1 := h2 1 (by decide) (by decide) (by decide) (by decide)
  have e2 : u.2 2 = σ.2 2 := h2 2 (by decide) (by decide) (by decide) (by decide)
  have e3 : u.2 3 = σ.2 3 := h2 3 (by decide) (by decide) (by decide) (by decide)
  have e4 : u.2 4 = σ.2 4 := h2 4 (by decide) (by decide) (by decide) (by decide)
  unfold gv_ok
  rw [e1, e2, e3, e4]
  intro k hk
  obtain ⟨g1, g2, g3, g4, g5⟩ := h4 k hk
  exact ⟨by rw [g1]; exact lwr_gs _ _ _ _, fun z => by rw [g2 z]; exact lwr_gs _ _ _ _, g3, fun z => by rw [g4 z]; exact lwr_gs _ _ _ _, g5⟩
theorem fg_step {σ u : SX} {k : Nat} {v9 v10 v11 : Int32} (h : FGk σ k u) (h9 : v9 = lwr (σ.2 1) (σ.2 2) k (tn (σ.2 2 k))) (h10 : σ.2 1 k ≠ 0 → v10 = lwr (σ.2 1) (σ.2 2) k (tn (σ.2 3 k))) (h10' : σ.2 1 k = 0 → v10 = -1) (h11 : thr (σ.2 1 k) → v11 = lwr (σ.2 1) (σ.2 2) k (tn (σ.2 4 k))) (h11' : ¬ thr (σ.2 1 k) → v11 = -1) :
    (sA (sA (sA u 9 k v9) 10 k v10) 11 k v11).1 = σ.1 ∧ (∀ f, f ≠ 9 → f ≠ 10 → f ≠ 11 → f ≠ 12 → (sA (sA (sA u 9 k v9) 10 k v10) 11 k v11).2 f = σ.2 f) ∧ (∀ r, r < 6 → (sA (sA (sA u 9 k v9) 10 k v10) 11 k v11).2 12 r = lwr (σ.2 1) (σ.2 2) k r) ∧ (∀ j, j < k + 1 → gvr σ.2 (sA (sA (sA u 9 k v9) 10 k v10) 11 k v11).2 j) := by
  obtain ⟨h1, h2, h3, h4⟩ := h
  refine ⟨h1, ?_, h3, ?_⟩
  · intro f f1 f2 f3 f4
    rw [← h2 f f1 f2 f3 f4]
    unfold sA va_up
    simp only [if_neg f1, if_neg f2, if_neg f3]
  · intro j hj
    unfold gvr
    show upd (u.2 9) k v9 j = _ ∧ (_ → upd (u.2 10) k v10 j = _) ∧ (_ → upd (u.2 10) k v10 j = _) ∧ (_ → upd (u.2 11) k v11 j = _) ∧ (_ → upd (u.2 11) k v11 j = _)
    unfold upd
    by_cases hjk : j = k
    · subst hjk
      simp only [if_pos]
      exact ⟨h9, h10, h10', h11, h11'⟩
    · simp only [if_neg hjk]
      exact h4 j (by omega)
theorem fg_n5 {σ u : SX} {k : Nat} (h5 : σ.2 1 k = 5) (h : u.1 = σ.1 ∧ (∀ f, f ≠ 9 → f ≠ 10 → f ≠ 11 → f ≠ 12 → u.2 f = σ.2 f) ∧ (∀ r, r < 6 → u.2 12 r = lwr (σ.2 1) (σ.2 2) k r) ∧ (∀ j, j < k + 1 → gvr σ.2 u.2 j)) : FGk σ (k + 1) u := by
  obtain ⟨h1, h2, h3, h4⟩ := h
  refine ⟨h1, h2, fun r hr => ?_, h4⟩
  rw [h3 r hr]
  show _ = if σ.2 1 k ≠ 5 ∧ σ.2 2 k = nI r then nI k else lwr (σ.2 1) (σ.2 2) k r
  rw [if_neg (fun z => z.1 h5)]
theorem fg_5 {σ u : SX} {k r0 : Nat} (h5 : σ.2 1 k ≠ 5) (hr0 : r0 < 6) (er : σ.2 2 k = nI r0) (h : u.1 = σ.1 ∧ (∀ f, f ≠ 9 → f ≠ 10 → f ≠ 11 → f ≠ 12 → u.2 f = σ.2 f) ∧ (∀ r, r < 6 → u.2 12 r = lwr (σ.2 1) (σ.2 2) k r) ∧ (∀ j, j < k + 1 → gvr σ.2 u.2 j)) : FGk σ (k + 1) (sA u 12 r0 (nI k)) := by
  obtain ⟨h1, h2, h3, h4⟩ := h
  refine ⟨h1, ?_, fun r hr => ?_, h4⟩
  · intro f f1 f2 f3 f4
    rw [← h2 f f1 f2 f3 f4]
    unfold sA va_up
    simp only [if_neg f4]
  · show upd (u.2 12) r0 (nI k) r = if σ.2 1 k ≠ 5 ∧ σ.2 2 k = nI r then nI k else lwr (σ.2 1) (σ.2 2) k r
    unfold upd
    by_cases hr2 : r = r0
    · subst hr2
      rw [if_pos rfl, if_pos ⟨h5, er⟩]
    · rw [if_neg hr2, if_neg, h3 r hr]
      intro z
      rw [er] at z
      exact hr2 (nI_inj (by omega) (by omega) z.2).symm
theorem fg_0 {σ u : SX} (h1 : u.1 = σ.1) (h2 : ∀ f, f ≠ 12 → u.2 f = σ.2 f) (h3 : ∀ r, r < 6 → u.2 12 r = -1) : FGk σ 0 u :=
  ⟨h1, fun f _ _ _ f4 => h2 f f4, fun r hr => h3 r hr, fun j hj => absurd hj (Nat.not_lt_zero _)⟩
set_option maxHeartbeats 4000000 in
theorem mX0_findGivers (l : Launch) (D : va_G) (d : Nat → ClassId) (h : Nat → Nat) (σ : SX) {n : Nat} (hn : n ≤ 20) (hln : σ.1 0 = nI n) (hpg : pg_ok σ.2 n) : MXv0 l yX0_findGivers cX0_findGivers 2 (rm 1 21) D d h [] σ (fgP σ n) := by
  refine MXv0.mk (by decide) rfl (Nat.le_of_ble_eq_true rfl) ?_
  intro p e s m args below meth c A ls Q hQ E hr hlk hW hl
  have hx := E.1
  have hb := E.2.1
  have hl : lv_has ls 2 [(0, .ref (h 0))] := hl
  have loop2 : ∀ (w k : Nat) (u : SX) (H : Heap) (locs : List Loc) (ls : Array Slot), k + w = n → FGk σ k u → XW0 D d h A s H locs u → lv_has ls 2 [(1, .int (nI k)), (0, .ref (h 0))] → W p l e (rm 1 21) s m args below meth c H locs 0 0 Q (F0 m 23 ls []) := by
    intro w
    induction w with
    | zero =>
      intro k u H locs ls hkw hF hW hl
      have hlu : u.1 0 = nI n := by rw [hF.1]; exact hln
      refine lv_iload_n hx hb dX0_findGivers_23 rfl (lv_at hl 0 rfl) ?_
      refine lv_aload_n hx hb dX0_findGivers_24 rfl (lv_at hl 1 rfl) ?_
      refine xg0_length E hW dX0_findGivers_25 ?_
      refine lv_icmp_ge (tgt := 136) hx hb dX0_findGivers_28 (by decide) (fun c28 => ?_) (fun c28 => ?_)
      · exact xvret0 E hW hQ hr hlk dX0_findGivers_136 (fg_end (by rw [← hkw]; exact hF))
      · rw [hlu] at c28
        exact absurd (nI_le (by omega) (by omega)) c28
    | succ w ih =>
      intro k u H locs ls hkw hF hW hl
      have hlu : u.1 0 = nI n := by rw [hF.1]; exact hln
      refine lv_iload_n hx hb dX0_findGivers_23 rfl (lv_at hl 0 rfl) ?_
      refine lv_aload_n hx hb dX0_findGivers_24 rfl (lv_at hl 1 rfl) ?_
      refine xg0_length E hW dX0_findGivers_25 ?_
      refine lv_icmp_ge (tgt := 136) hx hb dX0_findGivers_28 (by decide) (fun c28 => ?_) (fun c28 => ?_)
      · rw [hlu] at c28
        exact absurd (n_le (by omega) (by omega) c28) (by omega)
      · have hk : k < 20 := by omega
        have u1 : u.2 1 = σ.2 1 := hF.2.1 1 (by decide) (by decide) (by decide) (by decide)
        have u2 : u.2 2 = σ.2 2 := hF.2.1 2 (by decide) (by decide) (by decide) (by decide)
        have u3 : u.2 3 = σ.2 3 := hF.2.1 3 (by decide) (by decide) (by decide) (by decide)
        have u4 : u.2 4 = σ.2 4 := hF.2.1 4 (by decide) (by decide) (by decide) (by decide)
        obtain ⟨-, ⟨r0, hr0, er0⟩, hy0, hz0⟩ := hpg k (by omega)
        have et0 : tn (σ.2 2 k) = r0 := by rw [er0, tn_nI (by omega)]
        have hlw : ∀ r, r < 6 → vp_nar .byte (u.2 12 r) = lwr (σ.2 1) (σ.2 2) k r := fun r hr => by rw [hF.2.2.1 r hr]; exact lwr_nar _ _ _ _ (by omega)
        have t107 : ∀ (v10 v11 : Int32) (H : Heap) (locs : List Loc) (ls : Array Slot), (σ.2 1 k ≠ 0 → v10 = lwr (σ.2 1) (σ.2 2) k (tn (σ.2 3 k))) → (σ.2 1 k = 0 → v10 = -1) → (thr (σ.2 1 k) → v11 = lwr (σ.2 1) (σ.2 2) k (tn (σ.2 4 k))) → (¬ thr (σ.2 1 k) → v11 = -1) → XW0 D d h A s H locs (sA (sA (sA u 9 k (lwr (σ.2 1) (σ.2 2) k r0)) 10 k v10) 11 k v11) → lv_has ls 2 [(1, .int (nI k)), (0, .ref (h 0))] → W p l e (rm 1 21) s m args below meth c H locs 0 0 Q (F0 m 107 ls []) := by
          intro v10 v11 H locs ls a1 a2 a3 a4 hW hl
          have hst := fg_step hF (v9 := lwr (σ.2 1) (σ.2 2) k r0) (by rw [et0]) a1 a2 a3 a4
          refine lv_aload_n hx hb dX0_findGivers_107 rfl (lv_at hl 1 rfl) ?_
          refine xg0_opcode E hW dX0_findGivers_108 ?_
          refine lv_iload_n hx hb dX0_findGivers_111 rfl (lv_at hl 0 rfl) ?_
          refine xl0_opcode E hW rfl hk dX0_findGivers_112 ?_
          refine lv_iconst (v := 5) hx hb dX0_findGivers_113 (by decide) ?_
          refine lv_icmp_eq (tgt := 130) hx hb dX0_findGivers_114 (by decide) (fun c114 => ?_) (fun c114 => ?_)
          · have c114 : σ.2 1 k = 5 := by rw [← u1]; exact c114
            refine lv_iinc (v := (nI (k + 1))) (lv' := [(1, .int (nI (k + 1))), (0, .ref _)]) hx hb dX0_findGivers_130 hl (k := 0) rfl (ii1 _) (by decide) rfl (fun ls hl => ?_)
            refine lv_goto (tgt := 23) hx hb dX0_findGivers_133 (by decide) ?_
            exact ih (k + 1) _ _ _ ls (by omega) (fg_n5 c114 hst) hW (lv_sub hl [0, 1] rfl)
          · have c114 : σ.2 1 k ≠ 5 := by rw [← u1]; exact c114
            refine lv_aload_n hx hb dX0_findGivers_117 rfl (lv_at hl 1 rfl) ?_
            refine xg0_lastWriter E hW dX0_findGivers_118 ?_
            refine lv_aload_n hx hb dX0_findGivers_121 rfl (lv_at hl 1 rfl) ?_
            refine xg0_fieldX E hW dX0_findGivers_122 ?_
            refine lv_iload_n hx hb dX0_findGivers_125 rfl (lv_at hl 0 rfl) ?_
            refine xl0_fieldX E hW rfl hk dX0_findGivers_126 ?_
            refine lv_iload_n hx hb dX0_findGivers_127 rfl (lv_at hl 0 rfl) ?_
            refine lv_i2b (v := (nI k)) hx hb dX0_findGivers_128 (b8 _ (by omega)) ?_
            refine xs0_lastWriter E hW (show u.2 2 k = nI r0 by rw [u2]; exact er0) hr0 (nb8 (by omega)) dX0_findGivers_129 (fun H locs hW => ?_)
            refine lv_iinc (v := (nI (k + 1))) (lv' := [(1, .int (nI (k + 1))), (0, .ref _)]) hx hb dX0_findGivers_130 hl (k := 0) rfl (ii1 _) (by decide) rfl (fun ls hl => ?_)
            refine lv_goto (tgt := 23) hx hb dX0_findGivers_133 (by decide) ?_
            exact ih (k + 1) _ _ _ ls (by omega) (fg_5 c114 hr0 er0 hst) hW (lv_sub hl [0, 1] rfl)
        have t78 : ∀ (v10 : Int32) (H : Heap) (locs : List Loc) (ls : Array Slot), (σ.2 1 k ≠ 0 → v10 = lwr (σ.2 1) (σ.2 2) k (tn (σ.2 3 k))) → (σ.2 1 k = 0 → v10 = -1) → XW0 D d h A s H locs (sA (sA u 9 k (lwr (σ.2 1) (σ.2 2) k r0)) 10 k v10) → lv_has ls 2 [(1, .int (nI k)), (0, .ref (h 0))] → W p l e (rm 1 21) s m args below meth c H locs 0 0 Q (F0 m 78 ls []) := by
          intro v10 H locs ls a1 a2 hW hl
          refine lv_aload_n hx hb dX0_findGivers_78 rfl (lv_at hl 1 rfl) ?_
          refine xg0_giverZ E hW dX0_findGivers_79 ?_
          refine lv_iload_n hx hb dX0_findGivers_82 rfl (lv_at hl 0 rfl) ?_
          refine lv_aload_n hx hb dX0_findGivers_83 rfl (lv_at hl 1 rfl) ?_
          refine lv_iload_n hx hb dX0_findGivers_84 rfl (lv_at hl 0 rfl) ?_
          refine xci0 (n := 1) (mX0_hasThree l D d h (sA (sA u 9 k (lwr (σ.2 1) (σ.2 2) k r0)) 10 k v10) hk) E hW (lw_V q116 q118 qs2 q19 q119) ⟨rfl, rfl⟩ (by decide +kernel) ⟨Nat.le_of_ble_eq_true rfl, Nat.le_of_ble_eq_true rfl⟩ rfl hl.1 rfl (Nat.le_of_ble_eq_true rfl) dX0_findGivers_85 (fun r v H locs hp hW => ?_)
          obtain ⟨hu, er⟩ := hp
          have hW := hw_u hu hW
          refine lv_if_eq (tgt := 105) hx hb dX0_findGivers_88 (by decide) (fun c88 => ?_) (fun c88 => ?_)
          · have c3 : ¬ thr (σ.2 1 k) := by
              rw [← u1]
              rcases er with y | y
              · rw [y.1] at c88; exact absurd c88 (by decide)
              · exact y.2
            refine lv_iconst (v := (-1)) hx hb dX0_findGivers_105 (by decide) ?_
            refine xs0_giverZ E hW rfl hk nb8m dX0_findGivers_106 (fun H locs hW => ?_)
            exact t107 v10 (-1) _ _ ls a1 a2 (fun z => absurd z c3) (fun _ => rfl) hW hl
          · have c3 : thr (σ.2 1 k) := by
              rw [← u1]
              rcases er with y | y
              · exact y.2
              · exact absurd y.1 c88
            obtain ⟨rz, hrz, erz⟩ := hz0 c3
            have etz : tn (σ.2 4 k) = rz := by rw [erz, tn_nI (by omega)]
            refine lv_aload_n hx hb dX0_findGivers_91 rfl (lv_at hl 1 rfl) ?_
            refine xg0_lastWriter E hW dX0_findGivers_92 ?_
            refine lv_aload_n hx hb dX0_findGivers_95 rfl (lv_at hl 1 rfl) ?_
            refine xg0_fieldZ E hW dX0_findGivers_96 ?_
            refine lv_iload_n hx hb dX0_findGivers_99 rfl (lv_at hl 0 rfl) ?_
            refine xl0_fieldZ E hW rfl hk dX0_findGivers_100 ?_
            refine xl0_lastWriter E hW (show u.2 4 k = nI rz by rw [u4]; exact erz) hrz dX0_findGivers_101 ?_
            refine lv_goto (tgt := 106) hx hb dX0_findGivers_102 (by decide) ?_
            refine xs0_giverZ E hW rfl hk (hlw rz hrz) dX0_findGivers_106 (fun H locs hW => ?_)
            exact t107 v10 _ _ _ ls a1 a2 (fun _ => by rw [etz]) (fun z => absurd c3 z) hW hl
        refine lv_aload_n hx hb dX0_findGivers_31 rfl (lv_at hl 1 rfl) ?_
        refine xg0_giverX E hW dX0_findGivers_32 ?_
        refine lv_iload_n hx hb dX0_findGivers_35 rfl (lv_at hl 0 rfl) ?_
        refine lv_aload_n hx hb dX0_findGivers_36 rfl (lv_at hl 1 rfl) ?_
        refine xg0_lastWriter E hW dX0_findGivers_37 ?_
        refine lv_aload_n hx hb dX0_findGivers_40 rfl (lv_at hl 1 rfl) ?_
        refine xg0_fieldX E hW dX0_findGivers_41 ?_
        refine lv_iload_n hx hb dX0_findGivers_44 rfl (lv_at hl 0 rfl) ?_
        refine xl0_fieldX E hW rfl hk dX0_findGivers_45 ?_
        refine xl0_lastWriter E hW (show u.2 2 k = nI r0 by rw [u2]; exact er0) hr0 dX0_findGivers_46 ?_
        refine xs0_giverX E hW rfl hk (hlw r0 hr0) dX0_findGivers_47 (fun H locs hW => ?_)
        refine lv_aload_n hx hb dX0_findGivers_48 rfl (lv_at hl 1 rfl) ?_
        refine xg0_giverY E hW dX0_findGivers_49 ?_
        refine lv_iload_n hx hb dX0_findGivers_52 rfl (lv_at hl 0 rfl) ?_
        refine lv_aload_n hx hb dX0_findGivers_53 rfl (lv_at hl 1 rfl) ?_
        refine xg0_opcode E hW dX0_findGivers_54 ?_
        refine lv_iload_n hx hb dX0_findGivers_57 rfl (lv_at hl 0 rfl) ?_
        refine xl0_opcode E hW rfl hk dX0_findGivers_58 ?_
        refine lv_if_ne (tgt := 66) hx hb dX0_findGivers_59 (by decide) (fun c59 => ?_) (fun c59 => ?_)
        · have c59 : σ.2 1 k ≠ 0 := by rw [← u1]; exact c59
          obtain ⟨ry, hry, ery⟩ := hy0 c59
          have ety : tn (σ.2 3 k) = ry := by rw [ery, tn_nI (by omega)]
          refine lv_aload_n hx hb dX0_findGivers_66 rfl (lv_at hl 1 rfl) ?_
          refine xg0_lastWriter E hW dX0_findGivers_67 ?_
          refine lv_aload_n hx hb dX0_findGivers_70 rfl (lv_at hl 1 rfl) ?_
          refine xg0_fieldY E hW dX0_findGivers_71 ?_
          refine lv_iload_n hx hb dX0_findGivers_74 rfl (lv_at hl 0 rfl) ?_
          refine xl0_fieldY E hW rfl hk dX0_findGivers_75 ?_
          refine xl0_lastWriter E hW (show u.2 3 k = nI ry by rw [u3]; exact ery) hry dX0_findGivers_76 ?_
          refine xs0_giverY E hW rfl hk (hlw ry hry) dX0_findGivers_77 (fun H locs hW => ?_)
          exact t78 _ _ _ ls (fun _ => by rw [ety]) (fun z => absurd z c59) hW hl
        · have c59 : σ.2 1 k = 0 := by rw [← u1]; exact c59
          refine lv_iconst (v := (-1)) hx hb dX0_findGivers_62 (by decide) ?_
          refine lv_goto (tgt := 77) hx hb dX0_findGivers_63 (by decide) ?_
          refine xs0_giverY E hW rfl hk nb8m dX0_findGivers_77 (fun H locs hW => ?_)
          exact t78 _ _ _ ls (fun z => absurd c59 z) (fun _ => rfl) hW hl
  have loop1 : ∀ (w k : Nat) (u : SX) (H : Heap) (locs : List Loc) (ls : Array Slot), k + w = 6 → u.1 = σ.1 → (∀ f, f ≠ 12 → u.2 f = σ.2 f) → (∀ r, r < k → u.2 12 r = -1) → XW0 D d h A s H locs u → lv_has ls 2 [(1, .int (nI k)), (0, .ref (h 0))] → W p l e (rm 1 21) s m args below meth c H locs 0 0 Q (F0 m 2 ls []) := by
    intro w
    induction w with
    | zero =>
      intro k u H locs ls hkw h1 h2 h3 hW hl
      refine lv_iload_n hx hb dX0_findGivers_2 rfl (lv_at hl 0 rfl) ?_
      refine lv_bipush (v := (nI 6)) hx hb dX0_findGivers_3 (by decide) ?_
      refine lv_icmp_ge (tgt := 21) hx hb dX0_findGivers_5 (by decide) (fun c5 => ?_) (fun c5 => ?_)
      · refine lv_iconst (v := 0) hx hb dX0_findGivers_21 (by decide) ?_
        refine lv_istore_n (lv' := [(1, .int (nI 0)), (0, .ref _)]) hx hb dX0_findGivers_22 rfl hl (by decide) rfl (fun ls hl => ?_)
        exact loop2 n 0 u _ _ ls (by omega) (fg_0 h1 h2 (fun r hr => h3 r (by omega))) hW (lv_sub hl [0, 1] rfl)
      · exact absurd (nI_le (by omega) (by omega)) c5
    | succ w ih =>
      intro k u H locs ls hkw h1 h2 h3 hW hl
      refine lv_iload_n hx hb dX0_findGivers_2 rfl (lv_at hl 0 rfl) ?_
      refine lv_bipush (v := (nI 6)) hx hb dX0_findGivers_3 (by decide) ?_
      refine lv_icmp_ge (tgt := 21) hx hb dX0_findGivers_5 (by decide) (fun c5 => ?_) (fun c5 => ?_)
      · exact absurd (n_le (by omega) (by omega) c5) (by omega)
      · refine lv_aload_n hx hb dX0_findGivers_8 rfl (lv_at hl 1 rfl) ?_
        refine xg0_lastWriter E hW dX0_findGivers_9 ?_
        refine lv_iload_n hx hb dX0_findGivers_12 rfl (lv_at hl 0 rfl) ?_
        refine lv_iconst (v := (-1)) hx hb dX0_findGivers_13 (by decide) ?_
        refine xs0_lastWriter E hW rfl (by omega) nb8m dX0_findGivers_14 (fun H locs hW => ?_)
        refine lv_iinc (v := (nI (k + 1))) (lv' := [(1, .int (nI (k + 1))), (0, .ref _)]) hx hb dX0_findGivers_15 hl (k := 0) rfl (ii1 _) (by decide) rfl (fun ls hl => ?_)
        refine lv_goto (tgt := 2) hx hb dX0_findGivers_18 (by decide) ?_
        refine ih (k + 1) (sA u 12 k (-1)) _ _ ls (by omega) h1 (fun f hf => ?_) (fun r hr => ?_) hW (lv_sub hl [0, 1] rfl)
        · rw [← h2 f hf]
          unfold sA va_up
          simp only [if_neg hf]
        · by_cases hrk : r = k
          · subst hrk
            exact sA_at _ _ _ _
          · rw [sA_ne _ _ _ _ hrk]
            exact h3 r (by omega)
  refine lv_iconst (v := 0) hx hb dX0_findGivers_0 (by decide) ?_
  refine lv_istore_n (lv' := [(1, .int (nI 0)), (0, .ref _)]) hx hb dX0_findGivers_1 rfl hl (by decide) rfl (fun ls hl => ?_)
  exact loop1 6 0 σ _ _ ls (by omega) rfl (fun _ _ => rfl) (fun r hr => absurd hr (Nat.not_lt_zero _)) hW (lv_sub hl [0, 1] rfl)
/-! ===== one tick ===== -/
theorem inv_gr3 {a : Nat → Nat → Int32} {n hd k : Nat} (h : Inv a n hd) (hk : k < n) : gr3 a k := fun g hg => by
  have h20 := h.2.1
  rcases gv_lt h.2.2.2.1 hk hg with c | ⟨j, hj, e⟩
  · exact Or.inl c
  · exact Or.inr ⟨j, by omega, e⟩
theorem inv_vrx {a : Nat → Nat → Int32} {n hd k : Nat} (h : Inv a n hd) (hk : k < n) : vr (a 9 k) (a 2 k) := by
  rcases inv_gr3 h hk _ (Or.inl rfl) with c | c
  · exact Or.inl ⟨c, (h.2.2.1 k hk).2.1⟩
  · exact Or.inr c
theorem inv_vry {a : Nat → Nat → Int32} {n hd k : Nat} (h : Inv a n hd) (hk : k < n) (c0 : a 1 k ≠ 0) : vr (a 10 k) (a 3 k) := by
  rcases inv_gr3 h hk _ (Or.inr (Or.inl rfl)) with c | c
  · exact Or.inl ⟨c, (h.2.2.1 k hk).2.2.1 c0⟩
  · exact Or.inr c
theorem inv_vrz {a : Nat → Nat → Int32} {n hd k : Nat} (h : Inv a n hd) (hk : k < n) (c0 : thr (a 1 k)) : vr (a 11 k) (a 4 k) := by
  rcases inv_gr3 h hk _ (Or.inr (Or.inr rfl)) with c | c
  · exact Or.inl ⟨c, (h.2.2.1 k hk).2.2.2 c0⟩
  · exact Or.inr c
theorem op_thr {a : Nat → Nat → Int32} {n hd k : Nat} (h : Inv a n hd) (hk : k < n) (c0 : a 1 k ≠ 0) (c4 : a 1 k ≠ 4) (c5 : a 1 k ≠ 5) : thr (a 1 k) := by
  obtain ⟨o, ho, eo⟩ := (h.2.2.1 k hk).1
  rw [eo] at c0 c4 c5 ⊢
  match o, ho with
  | 0, _ => exact absurd rfl c0
  | 1, _ => exact Or.inr (by decide +kernel)
  | 2, _ => exact Or.inr (by decide +kernel)
  | 3, _ => exact Or.inr (by decide +kernel)
  | 4, _ => exact absurd rfl c4
  | 5, _ => exact absurd rfl c5
  | 6, _ => exact Or.inl rfl
theorem pr_012 {a : Nat → Nat → Int32} {n hd k : Nat} (h : Inv a n hd) (hk1 : hd ≤ k) (hk2 : k < n) (c2 : a 13 k ≠ 2) (c0 : a 13 k ≠ 0) : a 13 k = 1 ∧ ∃ t, t ≤ 3 ∧ a 14 k = nI t := by
  rcases h.2.2.2.2.2.2 k hk1 hk2 with ⟨q, -⟩ | ⟨q, -, q2, -⟩ | ⟨q, -⟩
  · exact absurd q c0
  · exact ⟨q, q2⟩
  · exact absurd q c2
theorem up_ne {f : Nat → Int32} {k j : Nat} {v : Int32} (h : j ≠ k) : upd f k v j = f j := by unfold upd; rw [if_neg h]
theorem up_at {f : Nat → Int32} {k : Nat} {v : Int32} : upd f k v k = v := by unfold upd; rw [if_pos rfl]
/-- nothing but chance has changed -/
theorem adv_0 {σ u : SX} {n hd k : Nat} (h : Inv σ.2 n hd) (e2 : u.2 = σ.2) (e1 : ∀ j, j ≠ 19 → u.1 j = σ.1 j) (hne : k = hd → σ.2 13 hd ≠ 2 → False) : advP σ n hd k u := by
  refine ⟨by rw [e2]; exact h, by rw [e2]; exact same9.rf, e1, fun j _ => by rw [e2]; exact eqAt.rf, fun z1 z2 => (hne z1 z2).elim⟩
theorem adv_start {σ : SX} {n hd k t : Nat} {x1 x2 : Int32} (h : Inv σ.2 n hd) (hk1 : hd ≤ k) (hk2 : k < n) (hp : σ.2 13 k = 0) (hS : St σ.2 k) (ht : t < 4) : advP σ n hd k (sA (sI (sA (sI σ 19 x1) 13 k 1) 19 x2) 14 k (nI t)) := by
  have hs : same9 σ.2 (sA (sI (sA (sI σ 19 x1) 13 k 1) 19 x2) 14 k (nI t)).2 := ⟨⟨rfl, rfl, rfl, rfl, rfl, rfl, rfl⟩, rfl, rfl⟩
  have ho : ∀ j, j ≠ k → eqAt σ.2 (sA (sI (sA (sI σ 19 x1) 13 k 1) 19 x2) 14 k (nI t)).2 j := fun j hj => ⟨up_ne (f := σ.2 13) hj, up_ne (f := σ.2 14) hj, rfl, rfl, rfl⟩
  obtain ⟨r1, r2⟩ := tr_start h hk1 hk2 hp hS (show t ≤ 3 by omega) hs ho (up_at (f := σ.2 13)) (up_at (f := σ.2 14)) rfl
  refine ⟨r1, hs, fun j hj => ?_, fun j hj => ho j (by omega), fun z _ => r2 z⟩
  show upd (upd σ.1 19 x1) 19 x2 j = σ.1 j
  rw [up_ne hj, up_ne hj]
theorem adv_tick {σ : SX} {n hd k t : Nat} (h : Inv σ.2 n hd) (hk1 : hd ≤ k) (hk2 : k < n) (hp : σ.2 13 k = 1) (ht : t < 3) (hta : σ.2 14 k = nI (t + 1)) : advP σ n hd k (sA σ 14 k (nI t)) := by
  have hs : same9 σ.2 (sA σ 14 k (nI t)).2 := ⟨⟨rfl, rfl, rfl, rfl, rfl, rfl, rfl⟩, rfl, rfl⟩
  have ho : ∀ j, j ≠ k → eqAt σ.2 (sA σ 14 k (nI t)).2 j := fun j hj => ⟨rfl, up_ne (f := σ.2 14) hj, rfl, rfl, rfl⟩
  obtain ⟨r1, r2⟩ := tr_tick h hk1 hk2 hp ht hta hs ho rfl (up_at (f := σ.2 14)) rfl
  exact ⟨r1, hs, fun j hj => rfl, fun j hj => ho j (by omega), fun z _ => r2 z⟩
theorem adv_plain {σ : SX} {n hd k : Nat} (h : Inv σ.2 n hd) (hk1 : hd ≤ k) (hk2 : k < n) (hp : σ.2 13 k = 1) (c4 : σ.2 1 k ≠ 4) (c5 : σ.2 1 k ≠ 5) : advP σ n hd k (sA (sA σ 15 k (pV σ.2 k)) 13 k 2) := by
  have hs : same9 σ.2 (sA (sA σ 15 k (pV σ.2 k)) 13 k 2).2 := ⟨⟨rfl, rfl, rfl, rfl, rfl, rfl, rfl⟩, rfl, rfl⟩
  have ho : ∀ j, j ≠ k → eqAt σ.2 (sA (sA σ 15 k (pV σ.2 k)) 13 k 2).2 j := fun j hj => ⟨up_ne (f := σ.2 13) hj, rfl, up_ne (f := σ.2 15) hj, rfl, rfl⟩
  obtain ⟨r1, r2⟩ := tr_plain h hk1 hk2 hp c4 c5 hs ho (up_at (f := σ.2 13)) (up_at (f := σ.2 15))
  exact ⟨r1, hs, fun j hj => rfl, fun j hj => ho j (by omega), fun z _ => r2 z⟩
theorem adv_load {σ u : SX} {n hd k : Nat} (h : Inv σ.2 n hd) (hk1 : hd ≤ k) (hk2 : k < n) (hp : σ.2 13 k = 1) (c4 : σ.2 1 k = 4) (hF : flP σ hd k u) : advP σ n hd k u := by
  obtain ⟨f, hf, hF⟩ := hF
  have h20 := h.2.1
  rcases hF with ⟨j, ej, j1, j2, j3, rfl⟩ | ⟨hF, rfl⟩
  · have hs : same9 σ.2 (sA σ 16 k (aF σ.2 k)).2 := ⟨⟨rfl, rfl, rfl, rfl, rfl, rfl, rfl⟩, rfl, rfl⟩
    have ho : ∀ j, j ≠ k → eqAt σ.2 (sA σ 16 k (aF σ.2 k)).2 j := fun j hj => ⟨rfl, rfl, rfl, up_ne (f := σ.2 16) hj, rfl⟩
    exact ⟨tr_lwait h hk1 hk2 hp c4 hs ho rfl rfl, hs, fun j hj => rfl, fun j hj => ho j (by omega), fun z _ => by omega⟩
  · generalize hv : (if f < 0 then σ.2 6 (tn (aF σ.2 k)) else σ.2 15 (tn f)) = v
    have hs : same9 σ.2 (sA (sA (sA (sA σ 16 k (aF σ.2 k)) 17 k f) 15 k v) 13 k 2).2 := ⟨⟨rfl, rfl, rfl, rfl, rfl, rfl, rfl⟩, rfl, rfl⟩
    have ho : ∀ j, j ≠ k → eqAt σ.2 (sA (sA (sA (sA σ 16 k (aF σ.2 k)) 17 k f) 15 k v) 13 k 2).2 j := fun j hj => ⟨up_ne (f := σ.2 13) hj, rfl, up_ne (f := σ.2 15) hj, up_ne (f := σ.2 16) hj, up_ne (f := σ.2 17) hj⟩
    obtain ⟨r1, r2⟩ := tr_ldone h hk1 hk2 hp c4 hs ho (up_at (f := σ.2 13)) (up_at (f := σ.2 16)) (up_at (f := σ.2 17)) hf (fun e => by
      rw [e, if_pos m1_neg] at hv
      rw [hv]
      exact up_at (f := σ.2 15)) (fun j ej j1 j2 => by
      rw [ej, if_neg (nI_pos (by omega)), tn_nI (by omega)] at hv
      refine ⟨?_, by rw [hv]; exact up_at (f := σ.2 15)⟩
      rcases hF with z | ⟨i, ei, i1, i2, i3⟩
      · rw [ej] at z; exact absurd z (nI_m1 (by omega))
      · rw [ej] at ei
        rw [nI_inj (by omega) (by omega) ei]; exact i3)
    exact ⟨r1, hs, fun j hj => rfl, fun j hj => ho j (by omega), fun z _ => r2 z⟩
theorem adv_store {σ u : SX} {n hd k : Nat} (h : Inv σ.2 n hd) (hk1 : hd ≤ k) (hk2 : k < n) (hp : σ.2 13 k = 1) (c5 : σ.2 1 k = 5) (hF : fsP σ n k u) : advP σ n hd k u := by
  rcases hF with ⟨hc, l, l1, l2, l3, rfl⟩ | ⟨hc, hd1, rfl⟩ | ⟨hc, hd1, rfl⟩
  · obtain ⟨b1, b2, b3, b4⟩ := sbN_spec (sA σ 16 k (aF σ.2 k)) l (n - l)
    have hs0 : same9 σ.2 (sA σ 16 k (aF σ.2 k)).2 := ⟨⟨rfl, rfl, rfl, rfl, rfl, rfl, rfl⟩, rfl, rfl⟩
    have ho0 : ∀ j, j ≠ k → eqAt σ.2 (sA σ 16 k (aF σ.2 k)).2 j := fun j hj => ⟨rfl, rfl, rfl, up_ne (f := σ.2 16) hj, rfl⟩
    have ho : ∀ j, j < l → j ≠ k → eqAt σ.2 (sbN (sA σ 16 k (aF σ.2 k)) l (n - l)).2 j := fun j j1 j2 => (ho0 j j2).tr (b3 j (Or.inl j1))
    obtain ⟨f13, f14, f15, f16, f17⟩ := b3 k (Or.inl l1)
    obtain ⟨r1, r2⟩ := tr_saddr h hk1 l1 l2 hp c5 hc (hs0.tr b1) ho (fun j j1 j2 => b4 j j1 (by omega)) (fun i i1 i2 z => l3 i i1 i2 ⟨z.1, z.2.1, (up_ne (f := σ.2 16) (by omega)).trans z.2.2.1, z.2.2.2⟩) f13 f14 (f16.trans (up_at (f := σ.2 16)))
    exact ⟨r1, hs0.tr b1, fun j hj => by rw [b2]; rfl, fun j hj => ho j (by omega) (by omega), fun z _ => r2 z⟩
  · exact adv_0 h rfl (fun _ _ => rfl) (fun z _ => hd1 (by subst z; exact head_dn h hk2 (Or.inl rfl)))
  · have hs : same9 σ.2 (sA (sA σ 15 k (vF σ.2 (σ.2 9 k) (σ.2 2 k))) 13 k 2).2 := ⟨⟨rfl, rfl, rfl, rfl, rfl, rfl, rfl⟩, rfl, rfl⟩
    have ho : ∀ j, j ≠ k → eqAt σ.2 (sA (sA σ 15 k (vF σ.2 (σ.2 9 k) (σ.2 2 k))) 13 k 2).2 j := fun j hj => ⟨up_ne (f := σ.2 13) hj, rfl, up_ne (f := σ.2 15) hj, rfl, rfl⟩
    obtain ⟨r1, r2⟩ := tr_sdata h hk1 hk2 hp c5 hc hd1 hs ho (up_at (f := σ.2 13)) (up_at (f := σ.2 15)) rfl
    exact ⟨r1, hs, fun j hj => rfl, fun j hj => ho j (by omega), fun z _ => r2 z⟩
set_option maxHeartbeats 4000000 in
theorem mX0_advance (l : Launch) (D : va_G) (d : Nat → ClassId) (h : Nat → Nat) (σ : SX) {n hd k : Nat} (hI : Inv σ.2 n hd) (hln : σ.1 0 = nI n) (hhd : σ.1 18 = nI hd) (hk1 : hd ≤ k) (hk2 : k < n) : MXv0 l yX0_advance cX0_advance 4 (rm 3 68) D d h [.int (nI k)] σ (advP σ n hd k) := by
  refine MXv0.mk (by decide) rfl (Nat.le_of_ble_eq_true rfl) ?_
  intro p e s m args below meth c A ls Q hQ E hr hlk hW hl
  have hx := E.1
  have hb := E.2.1
  have hl : lv_has ls 4 [(0, .ref (h 0)), (1, .int (nI k))] := hl
  have hn := hI.2.1
  have hk : k < 20 := by omega
  refine lv_aload_n hx hb dX0_advance_0 rfl (lv_at hl 0 rfl) ?_
  refine xg0_progress E hW dX0_advance_1 ?_
  refine lv_iload_n hx hb dX0_advance_4 rfl (lv_at hl 1 rfl) ?_
  refine xl0_progress E hW rfl hk dX0_advance_5 ?_
  refine lv_iconst (v := 2) hx hb dX0_advance_6 (by decide) ?_
  refine lv_icmp_ne (tgt := 11) hx hb dX0_advance_7 (by decide) (fun c7 => ?_) (fun c7 => ?_)
  · refine lv_aload_n hx hb dX0_advance_11 rfl (lv_at hl 0 rfl) ?_
    refine xg0_progress E hW dX0_advance_12 ?_
    refine lv_iload_n hx hb dX0_advance_15 rfl (lv_at hl 1 rfl) ?_
    refine xl0_progress E hW rfl hk dX0_advance_16 ?_
    refine lv_if_ne (tgt := 77) hx hb dX0_advance_17 (by decide) (fun c17 => ?_) (fun c17 => ?_)
    · obtain ⟨p1, t0, ht0, et0⟩ := pr_012 hI hk1 hk2 c7 c17
      refine lv_aload_n hx hb dX0_advance_77 rfl (lv_at hl 0 rfl) ?_
      refine xg0_ticks E hW dX0_advance_78 ?_
      refine lv_iload_n hx hb dX0_advance_81 rfl (lv_at hl 1 rfl) ?_
      refine xl0_ticks E hW rfl hk dX0_advance_82 ?_
      refine lv_if_le (tgt := 98) hx hb dX0_advance_83 (by decide) (fun c83 => ?_) (fun c83 => ?_)
      · refine lv_aload_n hx hb dX0_advance_98 rfl (lv_at hl 0 rfl) ?_
        refine xg0_opcode E hW dX0_advance_99 ?_
        refine lv_iload_n hx hb dX0_advance_102 rfl (lv_at hl 1 rfl) ?_
        refine xl0_opcode E hW rfl hk dX0_advance_103 ?_
        refine lv_iconst (v := 4) hx hb dX0_advance_104 (by decide) ?_
        refine lv_icmp_ne (tgt := 116) hx hb dX0_advance_105 (by decide) (fun c105 => ?_) (fun c105 => ?_)
        · refine lv_aload_n hx hb dX0_advance_116 rfl (lv_at hl 0 rfl) ?_
          refine xg0_opcode E hW dX0_advance_117 ?_
          refine lv_iload_n hx hb dX0_advance_120 rfl (lv_at hl 1 rfl) ?_
          refine xl0_opcode E hW rfl hk dX0_advance_121 ?_
          refine lv_iconst (v := 5) hx hb dX0_advance_122 (by decide) ?_
          refine lv_icmp_ne (tgt := 134) hx hb dX0_advance_123 (by decide) (fun c123 => ?_) (fun c123 => ?_)
          · refine lv_aload_n hx hb dX0_advance_134 rfl (lv_at hl 0 rfl) ?_
            refine lv_iload_n hx hb dX0_advance_135 rfl (lv_at hl 1 rfl) ?_
            refine xcv0 (n := 1) (mX0_finishPlain l D d h σ hk (inv_vrx hI hk2) (inv_vry hI hk2) (fun z => inv_vrz hI hk2 (op_thr hI hk2 z c105 c123))) E hW (lw_V q161 q163 qs13 q19 q164) ⟨rfl, rfl⟩ (by decide +kernel) ⟨Nat.le_of_ble_eq_true rfl, Nat.le_of_ble_eq_true rfl⟩ rfl hl.1 rfl (Nat.le_of_ble_eq_true rfl) dX0_advance_136 (fun u H locs hp hW => ?_)
            subst hp
            exact xvret0 E hW hQ hr hlk dX0_advance_139 (adv_plain hI hk1 hk2 p1 c105 c123)
          · refine lv_aload_n hx hb dX0_advance_126 rfl (lv_at hl 0 rfl) ?_
            refine lv_iload_n hx hb dX0_advance_127 rfl (lv_at hl 1 rfl) ?_
            refine xcv0 (n := 1) (mX0_finishStore l D d h σ hn hln hk2 (inv_vry hI hk2 (by rw [c123]; decide)) (inv_vrx hI hk2)) E hW (lw_V q153 q155 qs11 q19 q156) ⟨rfl, rfl⟩ (by decide +kernel) ⟨Nat.le_of_ble_eq_true rfl, Nat.le_of_ble_eq_true rfl⟩ rfl hl.1 rfl (Nat.le_of_ble_eq_true rfl) dX0_advance_128 (fun u H locs hp hW => ?_)
            refine lv_goto (tgt := 139) hx hb dX0_advance_131 (by decide) ?_
            exact xvret0 E hW hQ hr hlk dX0_advance_139 (adv_store hI hk1 hk2 p1 c123 hp)
        · refine lv_aload_n hx hb dX0_advance_108 rfl (lv_at hl 0 rfl) ?_
          refine lv_iload_n hx hb dX0_advance_109 rfl (lv_at hl 1 rfl) ?_
          refine xcv0 (n := 1) (mX0_finishLoad l D d h σ hk (inv_vry hI hk2 (by rw [c105]; decide)) hhd hk1) E hW (lw_V q141 q143 qs8 q19 q144) ⟨rfl, rfl⟩ (by decide +kernel) ⟨Nat.le_of_ble_eq_true rfl, Nat.le_of_ble_eq_true rfl⟩ rfl hl.1 rfl (Nat.le_of_ble_eq_true rfl) dX0_advance_110 (fun u H locs hp hW => ?_)
          refine lv_goto (tgt := 139) hx hb dX0_advance_113 (by decide) ?_
          exact xvret0 E hW hQ hr hlk dX0_advance_139 (adv_load hI hk1 hk2 p1 c105 hp)
      · obtain ⟨t, ht, et⟩ : ∃ t, t < 3 ∧ σ.2 14 k = nI (t + 1) := by
          rw [et0] at c83
          match t0, ht0, et0 with
          | 0, _, _ => exact absurd (by decide : nI 0 ≤ 0) c83
          | t + 1, ht0, et0 => exact ⟨t, by omega, et0⟩
        refine lv_aload_n hx hb dX0_advance_86 rfl (lv_at hl 0 rfl) ?_
        refine xg0_ticks E hW dX0_advance_87 ?_
        refine lv_iload_n hx hb dX0_advance_90 rfl (lv_at hl 1 rfl) ?_
        refine lv_dup2_11 hx hb dX0_advance_91 rfl rfl ?_
        refine xl0_ticks E hW rfl hk dX0_advance_92 ?_
        refine lv_iconst (v := 1) hx hb dX0_advance_93 (by decide) ?_
        refine lv_isub hx hb dX0_advance_94 ?_
        refine lv_i2b (v := (nI t)) hx hb dX0_advance_95 (by rw [et, nI_pred]; exact b8 _ (by omega)) ?_
        refine xs0_ticks E hW rfl hk (nb8 (by omega)) dX0_advance_96 (fun H locs hW => ?_)
        exact xvret0 E hW hQ hr hlk dX0_advance_97 (adv_tick hI hk1 hk2 p1 ht et)
    · refine lv_aload_n hx hb dX0_advance_20 rfl (lv_at hl 0 rfl) ?_
      refine lv_iconst (v := (nI 3)) hx hb dX0_advance_21 (by decide) ?_
      refine xci0 (n := 1) (mX0_roll l D d h σ (t := 3) (by decide) (by decide)) E hW (lw_V q128 q130 qs5 q19 q131) ⟨rfl, rfl⟩ (by decide +kernel) ⟨Nat.le_of_ble_eq_true rfl, Nat.le_of_ble_eq_true rfl⟩ rfl hl.1 rfl (Nat.le_of_ble_eq_true rfl) dX0_advance_22 (fun r u H locs hp hW => ?_)
      obtain ⟨⟨x1, hu⟩, j1, hj1, ej1⟩ := hp
      have hW := hw_u hu hW
      subst ej1
      have t44 : ∀ (b : Int32) (H : Heap) (locs : List Loc) (ls : Array Slot), (b = 0 → k ≠ hd) → XW0 D d h A s H locs (sI σ 19 x1) → lv_has ls 4 [(3, .int b), (0, .ref (h 0)), (1, .int (nI k))] → W p l e (rm 3 68) s m args below meth c H locs 0 0 Q (F0 m 44 ls []) := by
        intro b H locs ls hb0 hW hl
        refine lv_iload_n hx hb dX0_advance_44 rfl (lv_at hl 0 rfl) ?_
        refine lv_if_eq (tgt := 56) hx hb dX0_advance_45 (by decide) (fun c45 => ?_) (fun c45 => ?_)
        · exact xvret0 E hW hQ hr hlk dX0_advance_56 (adv_0 hI rfl (fun j hj => up_ne (f := σ.1) hj) (fun z _ => hb0 c45 z))
        · refine lv_aload_n hx hb dX0_advance_48 rfl (lv_at hl 1 rfl) ?_
          refine lv_iload_n hx hb dX0_advance_49 rfl (lv_at hl 2 rfl) ?_
          refine xci0 (n := 1) (mX0_canStart l D d h (sI σ 19 x1) hk (inv_gr3 hI hk2)) E hW (lw_V q133 q135 qs6 q19 q136) ⟨rfl, rfl⟩ (by decide +kernel) ⟨Nat.le_of_ble_eq_true rfl, Nat.le_of_ble_eq_true rfl⟩ rfl hl.1 rfl (Nat.le_of_ble_eq_true rfl) dX0_advance_50 (fun r u H locs hp hW => ?_)
          obtain ⟨hu, er⟩ := hp
          have hW := hw_u hu hW
          refine lv_if_ne (tgt := 57) hx hb dX0_advance_53 (by decide) (fun c53 => ?_) (fun c53 => ?_)
          · have hS : St σ.2 k := by
              rcases er with y | y
              · exact y.2
              · exact absurd y.1 c53
            refine lv_aload_n hx hb dX0_advance_57 rfl (lv_at hl 1 rfl) ?_
            refine xg0_progress E hW dX0_advance_58 ?_
            refine lv_iload_n hx hb dX0_advance_61 rfl (lv_at hl 2 rfl) ?_
            refine lv_iconst (v := 1) hx hb dX0_advance_62 (by decide) ?_
            refine xs0_progress E hW rfl hk (nb8 (k := 1) (by decide)) dX0_advance_63 (fun H locs hW => ?_)
            refine lv_aload_n hx hb dX0_advance_64 rfl (lv_at hl 1 rfl) ?_
            refine xg0_ticks E hW dX0_advance_65 ?_
            refine lv_iload_n hx hb dX0_advance_68 rfl (lv_at hl 2 rfl) ?_
            refine lv_aload_n hx hb dX0_advance_69 rfl (lv_at hl 1 rfl) ?_
            refine lv_iconst (v := (nI 4)) hx hb dX0_advance_70 (by decide) ?_
            refine xci0 (n := 1) (mX0_roll l D d h (sA (sI σ 19 x1) 13 k 1) (t := 4) (by decide) (by decide)) E hW (lw_V q128 q130 qs5 q19 q131) ⟨rfl, rfl⟩ (by decide +kernel) ⟨Nat.le_of_ble_eq_true rfl, Nat.le_of_ble_eq_true rfl⟩ rfl hl.1 rfl (Nat.le_of_ble_eq_true rfl) dX0_advance_71 (fun r u H locs hp hW => ?_)
            obtain ⟨⟨x2, hu⟩, j2, hj2, ej2⟩ := hp
            have hW := hw_u hu hW
            subst ej2
            refine lv_i2b (v := (nI j2)) hx hb dX0_advance_74 (b8 _ (by omega)) ?_
            refine xs0_ticks E hW rfl hk (nb8 (by omega)) dX0_advance_75 (fun H locs hW => ?_)
            exact xvret0 E hW hQ hr hlk dX0_advance_76 (adv_start hI hk1 hk2 c17 hS hj2)
          · have hS : ¬ St σ.2 k := by
              rcases er with y | y
              · rw [y.1] at c53; exact absurd c53 (by decide)
              · exact y.2
            exact xvret0 E hW hQ hr hlk dX0_advance_56 (adv_0 hI rfl (fun j hj => up_ne (f := σ.1) hj) (fun z _ => hS (by subst z; exact head_St hI hk2)))
      refine lv_istore_n (lv' := [(2, .int _), (0, .ref _), (1, .int _)]) hx hb dX0_advance_25 rfl hl (by decide) rfl (fun ls hl => ?_)
      refine lv_iload_n hx hb dX0_advance_26 rfl (lv_at hl 0 rfl) ?_
      refine lv_if_eq (tgt := 38) hx hb dX0_advance_27 (by decide) (fun c27 => ?_) (fun c27 => ?_)
      · refine lv_iconst (v := 1) hx hb dX0_advance_38 (by decide) ?_
        refine lv_goto (tgt := 43) hx hb dX0_advance_39 (by decide) ?_
        refine lv_istore_n (lv' := [(3, .int 1), (2, .int _), (0, .ref _), (1, .int _)]) hx hb dX0_advance_43 rfl hl (by decide) rfl (fun ls hl => ?_)
        exact t44 1 _ _ ls (fun z => absurd z (by decide)) hW (lv_sub hl [0, 2, 3] rfl)
      · refine lv_iload_n hx hb dX0_advance_30 rfl (lv_at hl 2 rfl) ?_
        refine lv_aload_n hx hb dX0_advance_31 rfl (lv_at hl 1 rfl) ?_
        refine xg0_head E hW dX0_advance_32 ?_
        refine lv_icmp_ne (tgt := 42) hx hb dX0_advance_35 (by decide) (fun c35 => ?_) (fun c35 => ?_)
        · refine lv_iconst (v := 0) hx hb dX0_advance_42 (by decide) ?_
          refine lv_istore_n (lv' := [(3, .int _), (2, .int _), (0, .ref _), (1, .int _)]) hx hb dX0_advance_43 rfl hl (by decide) rfl (fun ls hl => ?_)
          exact t44 0 _ _ ls (fun _ z => c35 (by rw [z]; exact hhd.symm)) hW (lv_sub hl [0, 2, 3] rfl)
        · refine lv_iconst (v := 1) hx hb dX0_advance_38 (by decide) ?_
          refine lv_goto (tgt := 43) hx hb dX0_advance_39 (by decide) ?_
          refine lv_istore_n (lv' := [(3, .int _), (2, .int _), (0, .ref _), (1, .int _)]) hx hb dX0_advance_43 rfl hl (by decide) rfl (fun ls hl => ?_)
          exact t44 1 _ _ ls (fun z => absurd z (by decide)) hW (lv_sub hl [0, 2, 3] rfl)
  · exact xvret0 E hW hQ hr hlk dX0_advance_10 (adv_0 hI rfl (fun _ _ => rfl) (fun z y => y (by rw [← z]; exact c7)))
end
section
set_option maxRecDepth 100000
def P4 (σ u : SX) : Prop := u.2 1 = σ.2 1 ∧ u.2 2 = σ.2 2 ∧ u.2 3 = σ.2 3 ∧ u.2 4 = σ.2 4
theorem P4.rf {σ : SX} : P4 σ σ := ⟨rfl, rfl, rfl, rfl⟩
theorem P4.tr {a b c : SX} (h : P4 a b) (k : P4 b c) : P4 a c := ⟨k.1.trans h.1, k.2.1.trans h.2.1, k.2.2.1.trans h.2.2.1, k.2.2.2.trans h.2.2.2⟩
theorem P4.s7 {a b : SX} (h : same7 a.2 b.2) : P4 a b := ⟨h.1, h.2.1, h.2.2.1, h.2.2.2.1⟩
/-- the run so far: the queue's invariant, and one instruction after the other up to the head -/
def RIq (σ : SX) (wr : Nat → Int32) (n hd : Nat) (u : SX) : Prop := Inv u.2 n hd ∧ u.1 0 = nI n ∧ u.1 18 = nI hd ∧ P4 σ u ∧ TRq u (sqN (σ.2 1) (σ.2 2) (σ.2 3) (σ.2 4) (σ.2 5, σ.2 6, wr, 0) hd)
theorem ri_adv {σ u v : SX} {wr : Nat → Int32} {n hd k : Nat} (h : RIq σ wr n hd u) (ha : advP u n hd k v) : RIq σ wr n hd v := by
  obtain ⟨h1, h2, h3, h4, t1, t2, t3, t4⟩ := h
  obtain ⟨a1, ⟨a2, a5, a6⟩, a3, a4, -⟩ := ha
  exact ⟨a1, (a3 0 (by decide)).trans h2, (a3 18 (by decide)).trans h3, h4.tr (P4.s7 a2), a5.trans t1, a6.trans t2, by rw [a3 8 (by decide)]; exact t3, (a3 7 (by decide)).trans t4⟩
theorem ri_te {σ u v : SX} {wr : Nat → Int32} {n hd : Nat} (h : RIq σ wr n hd u) (ha : teP u n hd (sqN (σ.2 1) (σ.2 2) (σ.2 3) (σ.2 4) (σ.2 5, σ.2 6, wr, 0) hd) v) : RIq σ wr n (hd + 1) v := by
  obtain ⟨h1, h2, h3, h4, h5⟩ := h
  obtain ⟨a1, a2, a3, a4, a5, a6⟩ := ha
  refine ⟨a1, a4.trans h2, a5, h4.tr (P4.s7 a2), ?_⟩
  rw [h4.1, h4.2.1, h4.2.2.1, h4.2.2.2] at a6
  exact a6
def muq (n hd : Nat) (u : SX) : Nat := (n - hd) * 10 + (if hd < n then stg u.2 hd else 0)
theorem mu_end {n N : Nat} {u : SX} (hN : 10 ≤ N) : muq n n u ≤ N := by
  unfold muq
  rw [if_neg (Nat.lt_irrefl _)]
  omega
theorem mu_lt {n hd : Nat} {u : SX} (h : hd < n) : muq n hd u = (n - hd) * 10 + stg u.2 hd := by
  unfold muq
  rw [if_pos h]
theorem mu_step {n hd hd' N : Nat} {u v : SX} (h : hd < n) (h' : hd' < n) (hI : Inv v.2 n hd') (hm : muq n hd u ≤ N + 1) (hp : 0 < stg u.2 hd) (hs : (hd' = hd ∧ stg v.2 hd < stg u.2 hd) ∨ hd < hd') : muq n hd' v ≤ N := by
  rw [mu_lt h] at hm
  rw [mu_lt h']
  have := stg_le hI h'
  rcases hs with ⟨e, hs⟩ | hs
  · subst e; omega
  · omega
def runP (σ : SX) (wr : Nat → Int32) (n : Nat) (v : Int32) (u : SX) : Prop := v = nI n ∧ u.1 0 = nI n ∧ P4 σ u ∧ TRq u (sqN (σ.2 1) (σ.2 2) (σ.2 3) (σ.2 4) (σ.2 5, σ.2 6, wr, 0) n)
theorem ri_0 {σ u : SX} {wr : Nat → Int32} {n : Nat} {x : Int32} (hn : n ≤ 20) (hln : σ.1 0 = nI n) (hpg : pg_ok σ.2 n) (hwr : ∀ c, c < 16 → wr c = 0) (h : fgP (sI (sI (sI σ 19 x) 7 0) 8 0) n u) : RIq σ wr n 0 (sI (sbN u 0 n) 18 (nI 0)) ∧ (0 < n → (sI (sbN u 0 n) 18 (nI 0)).2 13 0 ≠ 2) := by
  obtain ⟨f1, f2, f3⟩ := h
  obtain ⟨b1, b2, b3, b4⟩ := sbN_spec u 0 n
  have hP : P4 σ u := ⟨f2 1 (by decide) (by decide) (by decide) (by decide), f2 2 (by decide) (by decide) (by decide) (by decide), f2 3 (by decide) (by decide) (by decide) (by decide), f2 4 (by decide) (by decide) (by decide) (by decide)⟩
  have hP2 : P4 σ (sI (sbN u 0 n) 18 (nI 0)) := hP.tr (P4.s7 b1.1)
  have hz : ∀ j, j < n → (sbN u 0 n).2 13 j = 0 ∧ (sbN u 0 n).2 16 j = -1 := fun j hj => b4 j (Nat.zero_le _) (by omega)
  have e1 : (sI (sbN u 0 n) 18 (nI 0)).1 = upd (upd (upd (upd σ.1 19 x) 7 0) 8 0) 18 (nI 0) := by
    show upd (sbN u 0 n).1 18 (nI 0) = _
    rw [b2, f1]
    rfl
  refine ⟨⟨inv_init hn ?_ ?_ hz, ?_, by rw [e1]; rfl, hP2, ?_, ?_, ?_, by rw [e1]; rfl⟩, fun h0 => ?_⟩
  · unfold pg_ok
    rw [hP2.1, hP2.2.1, hP2.2.2.1, hP2.2.2.2]
    exact hpg
  · show gv_ok (sbN u 0 n).2 n
    unfold gv_ok
    rw [b1.1.1, b1.1.2.1, b1.1.2.2.1, b1.1.2.2.2.1, b1.1.2.2.2.2.1, b1.1.2.2.2.2.2.1, b1.1.2.2.2.2.2.2]
    exact f3
  · rw [e1]; exact hln
  · show (sbN u 0 n).2 5 = σ.2 5
    rw [b1.2.1]; exact f2 5 (by decide) (by decide) (by decide) (by decide)
  · show (sbN u 0 n).2 6 = σ.2 6
    rw [b1.2.2]; exact f2 6 (by decide) (by decide) (by decide) (by decide)
  · rw [e1]
    exact wbk_0 hwr
  · show (sbN u 0 n).2 13 0 ≠ 2
    rw [(hz 0 h0).1]; decide
set_option maxHeartbeats 4000000 in
theorem mX0_run (l : Launch) (D : va_G) (d : Nat → ClassId) (h : Nat → Nat) (σ : SX) {n : Nat} (wr : Nat → Int32) (seed : Int32) (hn : n ≤ 20) (hln : σ.1 0 = nI n) (hpg : pg_ok σ.2 n) (hwr : ∀ c, c < 16 → wr c = 0) : MXi0 l yX0_run cX0_run 3 (some .int) (rm 4 91) D d h [.int seed] σ (runP σ wr n) := by
  refine MXi0.mk (by decide) rfl (Nat.le_of_ble_eq_true rfl) ?_
  intro p e s m args below meth c A ls Q hQ E hr hlk hW hl
  have hx := E.1
  have hb := E.2.1
  have hl : lv_has ls 3 [(0, .ref (h 0)), (1, .int seed)] := hl
  have outer : ∀ (N hd : Nat) (u : SX) (H : Heap) (locs : List Loc) (ls : Array Slot), RIq σ wr n hd u → (hd < n → u.2 13 hd ≠ 2) → muq n hd u ≤ N → XW0 D d h A s H locs u → lv_has ls 3 [(0, .ref (h 0))] → W p l e (rm 4 91) s m args below meth c H locs 0 0 Q (F0 m 45 ls []) := by
    intro N
    induction N with
    | zero =>
      intro hd u H locs ls hR hp2 hmu hW hl
      have hI := hR.1
      have hu0 := hR.2.1
      have hu18 := hR.2.2.1
      have hhn := hI.1
      refine lv_aload_n hx hb dX0_run_45 rfl (lv_at hl 0 rfl) ?_
      refine xg0_head E hW dX0_run_46 ?_
      refine lv_aload_n hx hb dX0_run_49 rfl (lv_at hl 0 rfl) ?_
      refine xg0_length E hW dX0_run_50 ?_
      refine lv_icmp_ge (tgt := 111) hx hb dX0_run_53 (by decide) (fun c53 => ?_) (fun c53 => ?_)
      · rw [hu0, hu18] at c53
        have e : hd = n := by have := n_le (by omega) (by omega) c53; omega
        subst e
        refine lv_aload_n hx hb dX0_run_111 rfl (lv_at hl 0 rfl) ?_
        refine xg0_length E hW dX0_run_112 ?_
        exact xiret0 E hW hQ hr hlk dX0_run_115 (⟨hu0, hu0, hR.2.2.2.1, hR.2.2.2.2⟩)
      · rw [hu0, hu18] at c53
        have hlt : hd < n := n_nle (by omega) (by omega) c53
        rw [mu_lt hlt] at hmu
        exact absurd hmu (by omega)
    | succ N ih =>
      intro hd u H locs ls hR hp2 hmu hW hl
      have hI := hR.1
      have hu0 := hR.2.1
      have hu18 := hR.2.2.1
      have hhn := hI.1
      refine lv_aload_n hx hb dX0_run_45 rfl (lv_at hl 0 rfl) ?_
      refine xg0_head E hW dX0_run_46 ?_
      refine lv_aload_n hx hb dX0_run_49 rfl (lv_at hl 0 rfl) ?_
      refine xg0_length E hW dX0_run_50 ?_
      refine lv_icmp_ge (tgt := 111) hx hb dX0_run_53 (by decide) (fun c53 => ?_) (fun c53 => ?_)
      · rw [hu0, hu18] at c53
        have e : hd = n := by have := n_le (by omega) (by omega) c53; omega
        subst e
        refine lv_aload_n hx hb dX0_run_111 rfl (lv_at hl 0 rfl) ?_
        refine xg0_length E hW dX0_run_112 ?_
        exact xiret0 E hW hQ hr hlk dX0_run_115 (⟨hu0, hu0, hR.2.2.2.1, hR.2.2.2.2⟩)
      · rw [hu0, hu18] at c53
        have hlt : hd < n := n_nle (by omega) (by omega) c53
        have hsp : 0 < stg u.2 hd := stg_pos (hp2 hlt)
        have hN : 10 ≤ N := by rw [mu_lt hlt] at hmu; omega
        have whil : ∀ (w hd' : Nat) (v : SX) (H : Heap) (locs : List Loc) (ls : Array Slot), hd' + w = n → RIq σ wr n hd' v → ((hd' = hd ∧ stg v.2 hd < stg u.2 hd) ∨ hd < hd') → XW0 D d h A s H locs v → lv_has ls 3 [(0, .ref (h 0))] → W p l e (rm 4 91) s m args below meth c H locs 0 0 Q (F0 m 80 ls []) := by
          intro w
          induction w with
          | zero =>
            intro hd' v H locs ls hw hR hs hW hl
            have hv0 := hR.2.1
            have hv18 := hR.2.2.1
            refine lv_aload_n hx hb dX0_run_80 rfl (lv_at hl 0 rfl) ?_
            refine xg0_head E hW dX0_run_81 ?_
            refine lv_aload_n hx hb dX0_run_84 rfl (lv_at hl 0 rfl) ?_
            refine xg0_length E hW dX0_run_85 ?_
            refine lv_icmp_ge (tgt := 45) hx hb dX0_run_88 (by decide) (fun c88 => ?_) (fun c88 => ?_)
            · have e : hd' = n := by omega
              subst e
              exact ih _ v _ _ ls hR (fun z => absurd z (Nat.lt_irrefl _)) (mu_end hN) hW hl
            · rw [hv0, hv18] at c88
              exact absurd (nI_le (by omega) (by omega)) c88
          | succ w ihw =>
            intro hd' v H locs ls hw hR hs hW hl
            have hv0 := hR.2.1
            have hv18 := hR.2.2.1
            refine lv_aload_n hx hb dX0_run_80 rfl (lv_at hl 0 rfl) ?_
            refine xg0_head E hW dX0_run_81 ?_
            refine lv_aload_n hx hb dX0_run_84 rfl (lv_at hl 0 rfl) ?_
            refine xg0_length E hW dX0_run_85 ?_
            refine lv_icmp_ge (tgt := 45) hx hb dX0_run_88 (by decide) (fun c88 => ?_) (fun c88 => ?_)
            · rw [hv0, hv18] at c88
              exact absurd (n_le (by omega) (by omega) c88) (by omega)
            · have hlt' : hd' < n := by omega
              refine lv_aload_n hx hb dX0_run_91 rfl (lv_at hl 0 rfl) ?_
              refine xg0_progress E hW dX0_run_92 ?_
              refine lv_aload_n hx hb dX0_run_95 rfl (lv_at hl 0 rfl) ?_
              refine xg0_head E hW dX0_run_96 ?_
              refine xl0_progress E hW hv18 (by omega) dX0_run_99 ?_
              refine lv_iconst (v := 2) hx hb dX0_run_100 (by decide) ?_
              refine lv_icmp_ne (tgt := 45) hx hb dX0_run_101 (by decide) (fun c101 => ?_) (fun c101 => ?_)
              · exact ih hd' v _ _ ls hR (fun _ => c101) (mu_step hlt hlt' hR.1 hmu hsp hs) hW hl
              · refine lv_aload_n hx hb dX0_run_104 rfl (lv_at hl 0 rfl) ?_
                refine xcv0 (n := 0) (mX0_takeEffect l D d h v hR.1 hlt' hv18 c101 hR.2.2.2.2) E hW (lw_V q165 q167 qs14 q19 q168) ⟨rfl, rfl⟩ (by decide +kernel) ⟨Nat.le_of_ble_eq_true rfl, Nat.le_of_ble_eq_true rfl⟩ rfl hl.1 rfl (Nat.le_of_ble_eq_true rfl) dX0_run_105 (fun v2 H locs hp hW => ?_)
                refine lv_goto (tgt := 80) hx hb dX0_run_108 (by decide) ?_
                exact ihw (hd' + 1) v2 _ _ ls (by omega) (ri_te hR hp) (Or.inr (by omega)) hW hl
        have forl : ∀ (w i : Nat) (v : SX) (H : Heap) (locs : List Loc) (ls : Array Slot), hd ≤ i → i + w = n → RIq σ wr n hd v → (i = hd → stg v.2 hd = stg u.2 hd ∧ v.2 13 hd ≠ 2) → (hd < i → stg v.2 hd < stg u.2 hd) → XW0 D d h A s H locs v → lv_has ls 3 [(2, .int (nI i)), (0, .ref (h 0))] → W p l e (rm 4 91) s m args below meth c H locs 0 0 Q (F0 m 61 ls []) := by
          intro w
          induction w with
          | zero =>
            intro i v H locs ls hi hw hR hs1 hs2 hW hl
            have hv0 := hR.2.1
            have hv18 := hR.2.2.1
            refine lv_iload_n hx hb dX0_run_61 rfl (lv_at hl 0 rfl) ?_
            refine lv_aload_n hx hb dX0_run_62 rfl (lv_at hl 1 rfl) ?_
            refine xg0_length E hW dX0_run_63 ?_
            refine lv_icmp_ge (tgt := 80) hx hb dX0_run_66 (by decide) (fun c66 => ?_) (fun c66 => ?_)
            · exact whil (n - hd) hd v _ _ ls (by omega) hR (Or.inl ⟨rfl, hs2 (by omega)⟩) hW (lv_sub hl [1] rfl)
            · rw [hv0] at c66
              exact absurd (nI_le (by omega) (by omega)) c66
          | succ w ihw =>
            intro i v H locs ls hi hw hR hs1 hs2 hW hl
            have hv0 := hR.2.1
            have hv18 := hR.2.2.1
            refine lv_iload_n hx hb dX0_run_61 rfl (lv_at hl 0 rfl) ?_
            refine lv_aload_n hx hb dX0_run_62 rfl (lv_at hl 1 rfl) ?_
            refine xg0_length E hW dX0_run_63 ?_
            refine lv_icmp_ge (tgt := 80) hx hb dX0_run_66 (by decide) (fun c66 => ?_) (fun c66 => ?_)
            · rw [hv0] at c66
              exact absurd (n_le (by omega) (by omega) c66) (by omega)
            · have hin : i < n := by omega
              refine lv_aload_n hx hb dX0_run_69 rfl (lv_at hl 1 rfl) ?_
              refine lv_iload_n hx hb dX0_run_70 rfl (lv_at hl 0 rfl) ?_
              refine xcv0 (n := 1) (mX0_advance l D d h v hR.1 hv0 hv18 hi hin) E hW (lw_V q124 q126 qs4 q19 q127) ⟨rfl, rfl⟩ (by decide +kernel) ⟨Nat.le_of_ble_eq_true rfl, Nat.le_of_ble_eq_true rfl⟩ rfl hl.1 rfl (Nat.le_of_ble_eq_true rfl) dX0_run_71 (fun v2 H locs hp hW => ?_)
              refine lv_iinc (v := (nI (i + 1))) (lv' := [(2, .int (nI (i + 1))), (0, .ref _)]) hx hb dX0_run_74 hl (k := 0) rfl (ii1 _) (by decide) rfl (fun ls hl => ?_)
              refine lv_goto (tgt := 61) hx hb dX0_run_77 (by decide) ?_
              refine ihw (i + 1) v2 _ _ ls (by omega) (by omega) (ri_adv hR hp) (fun z => by omega) (fun _ => ?_) hW (lv_sub hl [0, 1] rfl)
              by_cases hih : i = hd
              · have := hp.2.2.2.2 hih (hs1 hih).2
                rw [(hs1 hih).1] at this
                exact this
              · rw [stg_at hp.2.1.1.1 (hp.2.2.2.1 hd (by omega))]
                exact hs2 (by omega)
        refine lv_aload_n hx hb dX0_run_56 rfl (lv_at hl 0 rfl) ?_
        refine xg0_head E hW dX0_run_57 ?_
        rw [hu18]
        refine lv_istore_n (lv' := [(2, .int (nI hd)), (0, .ref _)]) hx hb dX0_run_60 rfl hl (by decide) rfl (fun ls hl => ?_)
        exact forl (n - hd) hd u _ _ ls (Nat.le_refl _) (by omega) hR (fun _ => ⟨rfl, hp2 hlt⟩) (fun z => absurd z (Nat.lt_irrefl _)) hW (lv_sub hl [0, 1] rfl)
  refine lv_aload_n hx hb dX0_run_0 rfl (lv_at hl 0 rfl) ?_
  refine lv_iload_n hx hb dX0_run_1 rfl (lv_at hl 1 rfl) ?_
  refine xp0_chance E hW dX0_run_2 (fun H locs hW => ?_)
  refine lv_aload_n hx hb dX0_run_5 rfl (lv_at hl 0 rfl) ?_
  refine lv_iconst (v := 0) hx hb dX0_run_6 (by decide) ?_
  refine xp0_fedCount E hW dX0_run_7 (fun H locs hW => ?_)
  refine lv_aload_n hx hb dX0_run_10 rfl (lv_at hl 0 rfl) ?_
  refine lv_iconst (v := 0) hx hb dX0_run_11 (by decide) ?_
  refine xp0_writtenCells E hW dX0_run_12 (fun H locs hW => ?_)
  refine lv_aload_n hx hb dX0_run_15 rfl (lv_at hl 0 rfl) ?_
  refine xcv0 (n := 0) (mX0_findGivers l D d h (sI (sI (sI σ 19 seed) 7 0) 8 0) hn hln hpg) E hW (lw_V q112 q114 qs1 q19 q115) ⟨rfl, rfl⟩ (by decide +kernel) ⟨Nat.le_of_ble_eq_true rfl, Nat.le_of_ble_eq_true rfl⟩ rfl hl.1 rfl (Nat.le_of_ble_eq_true rfl) dX0_run_16 (fun u H locs hp hW => ?_)
  have hu0 : ∀ i, (sbN u 0 i).1 0 = nI n := fun i => by rw [(sbN_spec u 0 i).2.1, hp.1]; exact hln
  have sbl : ∀ (w i : Nat) (H : Heap) (locs : List Loc) (ls : Array Slot), i + w = n → XW0 D d h A s H locs (sbN u 0 i) → lv_has ls 3 [(2, .int (nI i)), (0, .ref (h 0))] → W p l e (rm 4 91) s m args below meth c H locs 0 0 Q (F0 m 21 ls []) := by
    intro w
    induction w with
    | zero =>
      intro i H locs ls hw hW hl
      have hv0 := hu0 i
      refine lv_iload_n hx hb dX0_run_21 rfl (lv_at hl 0 rfl) ?_
      refine lv_aload_n hx hb dX0_run_22 rfl (lv_at hl 1 rfl) ?_
      refine xg0_length E hW dX0_run_23 ?_
      refine lv_icmp_ge (tgt := 40) hx hb dX0_run_26 (by decide) (fun c26 => ?_) (fun c26 => ?_)
      · have e : i = n := by omega
        subst e
        obtain ⟨r1, r2⟩ := ri_0 hn hln hpg hwr hp
        refine lv_aload_n hx hb dX0_run_40 rfl (lv_at hl 1 rfl) ?_
        refine lv_iconst (v := (nI 0)) hx hb dX0_run_41 (by decide) ?_
        refine xp0_head E hW dX0_run_42 (fun H locs hW => ?_)
        exact outer (muq i 0 (sI (sbN u 0 i) 18 (nI 0))) 0 _ _ _ ls r1 r2 (Nat.le_refl _) hW (lv_sub hl [1] rfl)
      · rw [hv0] at c26
        exact absurd (nI_le (by omega) (by omega)) c26
    | succ w ihw =>
      intro i H locs ls hw hW hl
      have hv0 := hu0 i
      refine lv_iload_n hx hb dX0_run_21 rfl (lv_at hl 0 rfl) ?_
      refine lv_aload_n hx hb dX0_run_22 rfl (lv_at hl 1 rfl) ?_
      refine xg0_length E hW dX0_run_23 ?_
      refine lv_icmp_ge (tgt := 40) hx hb dX0_run_26 (by decide) (fun c26 => ?_) (fun c26 => ?_)
      · rw [hv0] at c26
        exact absurd (n_le (by omega) (by omega) c26) (by omega)
      · refine lv_aload_n hx hb dX0_run_29 rfl (lv_at hl 1 rfl) ?_
        refine lv_iload_n hx hb dX0_run_30 rfl (lv_at hl 0 rfl) ?_
        refine xcv0 (n := 1) (mX0_setBack l D d h (sbN u 0 i) (k := i) (by omega)) E hW (lw_V q120 q122 qs3 q19 q123) ⟨rfl, rfl⟩ (by decide +kernel) ⟨Nat.le_of_ble_eq_true rfl, Nat.le_of_ble_eq_true rfl⟩ rfl hl.1 rfl (Nat.le_of_ble_eq_true rfl) dX0_run_31 (fun v2 H locs hp2 hW => ?_)
        rw [show sb (sbN u 0 i) i = sbN u 0 (i + 1) by show _ = sb (sbN u 0 i) (0 + i); rw [Nat.zero_add]] at hp2
        have hW := hw_u hp2 hW
        refine lv_iinc (v := (nI (i + 1))) (lv' := [(2, .int (nI (i + 1))), (0, .ref _)]) hx hb dX0_run_34 hl (k := 0) rfl (ii1 _) (by decide) rfl (fun ls hl => ?_)
        refine lv_goto (tgt := 21) hx hb dX0_run_37 (by decide) ?_
        exact ihw (i + 1) _ _ ls (by omega) hW (lv_sub hl [0, 1] rfl)
  refine lv_iconst (v := 0) hx hb dX0_run_19 (by decide) ?_
  refine lv_istore_n (lv' := [(2, .int (nI 0)), (0, .ref _), (1, .int _)]) hx hb dX0_run_20 rfl hl (by decide) rfl (fun ls hl => ?_)
  exact sbl n 0 _ _ ls (by omega) hW (lv_sub hl [0, 1] rfl)
/-! ===== emit ===== -/
/-- emit lets the instruction in not -/
def emB (op x y z : Int32) : Prop := (op < 0 ∨ 6 < op) ∨ bR x = 0 ∨ (op ≠ 0 ∧ bR y = 0) ∨ (thr op ∧ bR z = 0)
def emU (σ : SX) (n : Nat) (op x y z : Int32) : SX := sI (sA (sA (sA (sA σ 1 n op) 2 n x) 3 n y) 4 n z) 0 (nI (n + 1))
def emP (σ : SX) (n : Nat) (op x y z v : Int32) (u : SX) : Prop := (n = 20 ∧ v = -2 ∧ u = σ) ∨ (n < 20 ∧ emB op x y z ∧ v = -1 ∧ u = σ) ∨ (n < 20 ∧ ¬ emB op x y z ∧ v = nI (n + 1) ∧ u = emU σ n op x y z)
set_option maxHeartbeats 4000000 in
theorem mX0_emit (l : Launch) (D : va_G) (d : Nat → ClassId) (h : Nat → Nat) (σ : SX) {n : Nat} (op x y z : Int32) (hn : n ≤ 20) (hln : σ.1 0 = nI n) : MXi0 l yX0_emit cX0_emit 6 (some .int) (rm 1 21) D d h [.int op, .int x, .int y, .int z] σ (emP σ n op x y z) := by
  refine MXi0.mk (by decide) rfl (Nat.le_of_ble_eq_true rfl) ?_
  intro p e s m args below meth c A ls Q hQ E hr hlk hW hl
  have hx := E.1
  have hb := E.2.1
  have hl : lv_has ls 6 [(0, .ref (h 0)), (1, .int op), (2, .int x), (3, .int y), (4, .int z)] := hl
  have t83 : ∀ (H : Heap) (locs : List Loc) (ls : Array Slot), n < 20 → ¬ emB op x y z → XW0 D d h A s H locs σ → lv_has ls 6 [(0, .ref (h 0)), (1, .int op), (2, .int x), (3, .int y), (4, .int z)] → W p l e (rm 1 21) s m args below meth c H locs 0 0 Q (F0 m 83 ls []) := by
    intro H locs ls hk hB hW hl
    obtain ⟨jo, hjo, ejo⟩ := nI_of2 (M := 6) (n := 6) rfl (fun z1 => hB (Or.inl (Or.inl z1))) (Int32.not_lt.mp (fun z1 => hB (Or.inl (Or.inr z1))))
    obtain ⟨jx, hjx, ejx⟩ := bR_ok (fun z1 => hB (Or.inr (Or.inl z1)))
    refine lv_aload_n hx hb dX0_emit_83 rfl (lv_at hl 0 rfl) ?_
    refine xg0_opcode E hW dX0_emit_84 ?_
    refine lv_aload_n hx hb dX0_emit_87 rfl (lv_at hl 0 rfl) ?_
    refine xg0_length E hW dX0_emit_88 ?_
    refine lv_iload_n hx hb dX0_emit_91 rfl (lv_at hl 1 rfl) ?_
    refine lv_i2b (v := op) hx hb dX0_emit_92 (by rw [ejo]; exact b8 _ (by omega)) ?_
    refine xs0_opcode E hW hln hk (show vp_nar .byte op = op by rw [ejo]; exact nb8 (by omega)) dX0_emit_93 (fun H locs hW => ?_)
    refine lv_aload_n hx hb dX0_emit_94 rfl (lv_at hl 0 rfl) ?_
    refine xg0_fieldX E hW dX0_emit_95 ?_
    refine lv_aload_n hx hb dX0_emit_98 rfl (lv_at hl 0 rfl) ?_
    refine xg0_length E hW dX0_emit_99 ?_
    refine lv_iload_n hx hb dX0_emit_102 rfl (lv_at hl 2 rfl) ?_
    refine lv_i2b (v := x) hx hb dX0_emit_103 (by rw [ejx]; exact b8 _ (by omega)) ?_
    refine xs0_fieldX E hW hln hk (show vp_nar .byte x = x by rw [ejx]; exact nb8 (by omega)) dX0_emit_104 (fun H locs hW => ?_)
    refine lv_aload_n hx hb dX0_emit_105 rfl (lv_at hl 0 rfl) ?_
    refine xg0_fieldY E hW dX0_emit_106 ?_
    refine lv_aload_n hx hb dX0_emit_109 rfl (lv_at hl 0 rfl) ?_
    refine xg0_length E hW dX0_emit_110 ?_
    refine lv_iload_n hx hb dX0_emit_113 rfl (lv_at hl 3 rfl) ?_
    refine xs0_fieldY E hW hln hk dX0_emit_114 (fun H locs hW => ?_)
    refine lv_aload_n hx hb dX0_emit_115 rfl (lv_at hl 0 rfl) ?_
    refine xg0_fieldZ E hW dX0_emit_116 ?_
    refine lv_aload_n hx hb dX0_emit_119 rfl (lv_at hl 0 rfl) ?_
    refine xg0_length E hW dX0_emit_120 ?_
    refine lv_iload hx hb dX0_emit_123 (lv_at hl 4 rfl) ?_
    refine xs0_fieldZ E hW hln hk dX0_emit_125 (fun H locs hW => ?_)
    refine lv_aload_n hx hb dX0_emit_126 rfl (lv_at hl 0 rfl) ?_
    refine lv_dup hx hb dX0_emit_127 rfl ?_
    refine xg0_length E hW dX0_emit_128 ?_
    refine lv_iconst (v := 1) hx hb dX0_emit_131 (by decide) ?_
    refine lv_iadd hx hb dX0_emit_132 ?_
    rw [show (sA (sA (sA (sA σ 1 n op) 2 n x) 3 n y) 4 n z).1 0 + 1 = nI (n + 1) from (congrArg (fun z1 => z1 + 1) hln).trans (nI_1 n)]
    refine xp0_length E hW dX0_emit_133 (fun H locs hW => ?_)
    refine lv_aload_n hx hb dX0_emit_136 rfl (lv_at hl 0 rfl) ?_
    refine xg0_length E hW dX0_emit_137 ?_
    exact xiret0 E hW hQ hr hlk dX0_emit_140 (Or.inr (Or.inr ⟨hk, hB, rfl, rfl⟩))
  have t67 : ∀ (b : Int32) (H : Heap) (locs : List Loc) (ls : Array Slot), n < 20 → ¬ (op < 0 ∨ 6 < op) → ¬ bR x = 0 → ¬ (op ≠ 0 ∧ bR y = 0) → (b = 0 ↔ ¬ thr op) → XW0 D d h A s H locs σ → lv_has ls 6 [(5, .int b), (0, .ref (h 0)), (1, .int op), (2, .int x), (3, .int y), (4, .int z)] → W p l e (rm 1 21) s m args below meth c H locs 0 0 Q (F0 m 67 ls []) := by
    intro b H locs ls hk n1 n2 n3 hb3 hW hl
    refine lv_iload hx hb dX0_emit_67 (lv_at hl 0 rfl) ?_
    refine lv_if_eq (tgt := 83) hx hb dX0_emit_69 (by decide) (fun c69 => ?_) (fun c69 => ?_)
    · exact t83 _ _ ls hk (fun z1 => z1.elim n1 (fun z2 => z2.elim n2 (fun z3 => z3.elim n3 (fun z4 => hb3.mp c69 z4.1)))) hW (lv_sub hl [1, 2, 3, 4, 5] rfl)
    · refine lv_aload_n hx hb dX0_emit_72 rfl (lv_at hl 1 rfl) ?_
      refine lv_iload hx hb dX0_emit_73 (lv_at hl 5 rfl) ?_
      refine xci0 (n := 1) (mX0_isRegister l D d h σ z) E hW (lw_V q96 q98 qs0 q19 q99) ⟨rfl, rfl⟩ (by decide +kernel) ⟨Nat.le_of_ble_eq_true rfl, Nat.le_of_ble_eq_true rfl⟩ rfl hl.1 rfl (Nat.le_of_ble_eq_true rfl) dX0_emit_75 (fun r u H locs hp hW => ?_)
      obtain ⟨hu, er⟩ := hp
      have hW := hw_u hu hW
      subst er
      refine lv_if_ne (tgt := 83) hx hb dX0_emit_78 (by decide) (fun c78 => ?_) (fun c78 => ?_)
      · exact t83 _ _ ls hk (fun z1 => z1.elim n1 (fun z2 => z2.elim n2 (fun z3 => z3.elim n3 (fun z4 => c78 z4.2)))) hW (lv_sub hl [1, 2, 3, 4, 5] rfl)
      · refine lv_iconst (v := (-1)) hx hb dX0_emit_81 (by decide) ?_
        exact xiret0 E hW hQ hr hlk dX0_emit_82 (Or.inr (Or.inl ⟨hk, Or.inr (Or.inr (Or.inr ⟨Classical.byContradiction (fun z1 => c69 (hb3.mpr z1)), c78⟩)), rfl, rfl⟩))
  have t44 : ∀ (H : Heap) (locs : List Loc) (ls : Array Slot), n < 20 → ¬ (op < 0 ∨ 6 < op) → ¬ bR x = 0 → ¬ (op ≠ 0 ∧ bR y = 0) → XW0 D d h A s H locs σ → lv_has ls 6 [(0, .ref (h 0)), (1, .int op), (2, .int x), (3, .int y), (4, .int z)] → W p l e (rm 1 21) s m args below meth c H locs 0 0 Q (F0 m 44 ls []) := by
    intro H locs ls hk n1 n2 n3 hW hl
    refine lv_iload_n hx hb dX0_emit_44 rfl (lv_at hl 1 rfl) ?_
    refine lv_bipush (v := 6) hx hb dX0_emit_45 (by decide) ?_
    refine lv_icmp_eq (tgt := 60) hx hb dX0_emit_47 (by decide) (fun c47 => ?_) (fun c47 => ?_)
    · refine lv_iconst (v := 1) hx hb dX0_emit_60 (by decide) ?_
      refine lv_goto (tgt := 65) hx hb dX0_emit_61 (by decide) ?_
      refine lv_istore (lv' := [(5, .int _), (0, .ref _), (1, .int _), (2, .int _), (3, .int _), (4, .int _)]) hx hb dX0_emit_65 hl (by decide) rfl (fun ls hl => ?_)
      exact t67 1 _ _ ls hk n1 n2 n3 (⟨fun z1 => absurd z1 (by decide), fun z1 => absurd ((Or.inl c47 : thr op)) z1⟩) hW (lv_sub hl [0, 1, 2, 3, 4, 5] rfl)
    · refine lv_iload_n hx hb dX0_emit_50 rfl (lv_at hl 1 rfl) ?_
      refine lv_iconst (v := 1) hx hb dX0_emit_51 (by decide) ?_
      refine lv_icmp_lt (tgt := 64) hx hb dX0_emit_52 (by decide) (fun c52 => ?_) (fun c52 => ?_)
      · refine lv_iconst (v := 0) hx hb dX0_emit_64 (by decide) ?_
        refine lv_istore (lv' := [(5, .int _), (0, .ref _), (1, .int _), (2, .int _), (3, .int _), (4, .int _)]) hx hb dX0_emit_65 hl (by decide) rfl (fun ls hl => ?_)
        exact t67 0 _ _ ls hk n1 n2 n3 (⟨fun _ => fun z1 => z1.elim c47 (fun z2 => z2.1 c52), fun _ => rfl⟩) hW (lv_sub hl [0, 1, 2, 3, 4, 5] rfl)
      · refine lv_iload_n hx hb dX0_emit_55 rfl (lv_at hl 1 rfl) ?_
        refine lv_iconst (v := 3) hx hb dX0_emit_56 (by decide) ?_
        refine lv_icmp_gt (tgt := 64) hx hb dX0_emit_57 (by decide) (fun c57 => ?_) (fun c57 => ?_)
        · refine lv_iconst (v := 0) hx hb dX0_emit_64 (by decide) ?_
          refine lv_istore (lv' := [(5, .int _), (0, .ref _), (1, .int _), (2, .int _), (3, .int _), (4, .int _)]) hx hb dX0_emit_65 hl (by decide) rfl (fun ls hl => ?_)
          exact t67 0 _ _ ls hk n1 n2 n3 (⟨fun _ => fun z1 => z1.elim c47 (fun z2 => z2.2 c57), fun _ => rfl⟩) hW (lv_sub hl [0, 1, 2, 3, 4, 5] rfl)
        · refine lv_iconst (v := 1) hx hb dX0_emit_60 (by decide) ?_
          refine lv_goto (tgt := 65) hx hb dX0_emit_61 (by decide) ?_
          refine lv_istore (lv' := [(5, .int _), (0, .ref _), (1, .int _), (2, .int _), (3, .int _), (4, .int _)]) hx hb dX0_emit_65 hl (by decide) rfl (fun ls hl => ?_)
          exact t67 1 _ _ ls hk n1 n2 n3 (⟨fun z1 => absurd z1 (by decide), fun z1 => absurd ((Or.inr ⟨c52, c57⟩ : thr op)) z1⟩) hW (lv_sub hl [0, 1, 2, 3, 4, 5] rfl)
  refine lv_aload_n hx hb dX0_emit_0 rfl (lv_at hl 0 rfl) ?_
  refine xg0_length E hW dX0_emit_1 ?_
  refine lv_bipush (v := (nI 20)) hx hb dX0_emit_4 (by decide) ?_
  refine lv_icmp_lt (tgt := 12) hx hb dX0_emit_6 (by decide) (fun c6 => ?_) (fun c6 => ?_)
  · have hk : n < 20 := by rw [hln] at c6; exact (nI_ltI (by omega) (by omega)).mp c6
    refine lv_iload_n hx hb dX0_emit_12 rfl (lv_at hl 1 rfl) ?_
    refine lv_if_lt (tgt := 42) hx hb dX0_emit_13 (by decide) (fun c13 => ?_) (fun c13 => ?_)
    · refine lv_iconst (v := (-1)) hx hb dX0_emit_42 (by decide) ?_
      exact xiret0 E hW hQ hr hlk dX0_emit_43 (Or.inr (Or.inl ⟨hk, Or.inl (Or.inl c13), rfl, rfl⟩))
    · refine lv_iload_n hx hb dX0_emit_16 rfl (lv_at hl 1 rfl) ?_
      refine lv_bipush (v := 6) hx hb dX0_emit_17 (by decide) ?_
      refine lv_icmp_gt (tgt := 42) hx hb dX0_emit_19 (by decide) (fun c19 => ?_) (fun c19 => ?_)
      · refine lv_iconst (v := (-1)) hx hb dX0_emit_42 (by decide) ?_
        exact xiret0 E hW hQ hr hlk dX0_emit_43 (Or.inr (Or.inl ⟨hk, Or.inl (Or.inr c19), rfl, rfl⟩))
      · refine lv_aload_n hx hb dX0_emit_22 rfl (lv_at hl 0 rfl) ?_
        refine lv_iload_n hx hb dX0_emit_23 rfl (lv_at hl 2 rfl) ?_
        refine xci0 (n := 1) (mX0_isRegister l D d h σ x) E hW (lw_V q96 q98 qs0 q19 q99) ⟨rfl, rfl⟩ (by decide +kernel) ⟨Nat.le_of_ble_eq_true rfl, Nat.le_of_ble_eq_true rfl⟩ rfl hl.1 rfl (Nat.le_of_ble_eq_true rfl) dX0_emit_24 (fun r u H locs hp hW => ?_)
        obtain ⟨hu, er⟩ := hp
        have hW := hw_u hu hW
        subst er
        refine lv_if_eq (tgt := 42) hx hb dX0_emit_27 (by decide) (fun c27 => ?_) (fun c27 => ?_)
        · refine lv_iconst (v := (-1)) hx hb dX0_emit_42 (by decide) ?_
          exact xiret0 E hW hQ hr hlk dX0_emit_43 (Or.inr (Or.inl ⟨hk, Or.inr (Or.inl c27), rfl, rfl⟩))
        · refine lv_iload_n hx hb dX0_emit_30 rfl (lv_at hl 1 rfl) ?_
          refine lv_if_eq (tgt := 44) hx hb dX0_emit_31 (by decide) (fun c31 => ?_) (fun c31 => ?_)
          · exact t44 _ _ ls hk (fun z1 => z1.elim c13 c19) c27 (fun z1 => z1.1 c31) hW hl
          · refine lv_aload_n hx hb dX0_emit_34 rfl (lv_at hl 0 rfl) ?_
            refine lv_iload_n hx hb dX0_emit_35 rfl (lv_at hl 3 rfl) ?_
            refine xci0 (n := 1) (mX0_isRegister l D d h σ y) E hW (lw_V q96 q98 qs0 q19 q99) ⟨rfl, rfl⟩ (by decide +kernel) ⟨Nat.le_of_ble_eq_true rfl, Nat.le_of_ble_eq_true rfl⟩ rfl hl.1 rfl (Nat.le_of_ble_eq_true rfl) dX0_emit_36 (fun r u H locs hp hW => ?_)
            obtain ⟨hu, er⟩ := hp
            have hW := hw_u hu hW
            subst er
            refine lv_if_ne (tgt := 44) hx hb dX0_emit_39 (by decide) (fun c39 => ?_) (fun c39 => ?_)
            · exact t44 _ _ ls hk (fun z1 => z1.elim c13 c19) c27 (fun z1 => c39 z1.2) hW hl
            · refine lv_iconst (v := (-1)) hx hb dX0_emit_42 (by decide) ?_
              exact xiret0 E hW hQ hr hlk dX0_emit_43 (Or.inr (Or.inl ⟨hk, Or.inr (Or.inr (Or.inl ⟨c31, c39⟩)), rfl, rfl⟩))
  · have e : n = 20 := by
      rw [hln] at c6
      have := Nat.not_lt.mp (fun z1 => c6 (nI_lt z1 (by omega)))
      omega
    refine lv_bipush (v := (-2)) hx hb dX0_emit_9 (by decide) ?_
    exact xiret0 E hW hQ hr hlk dX0_emit_11 (Or.inl ⟨e, rfl, rfl⟩)
set_option maxHeartbeats 4000000 in
theorem mX1_emit (l : Launch) (D : va_G) (d : Nat → ClassId) (h : Nat → Nat) (σ : SX) {n : Nat} (op x y z : Int32) (hn : n ≤ 20) (hln : σ.1 0 = nI n) : MXi1 l yX1_emit cX1_emit 6 (some .int) (rm 1 21) D d h [.int op, .int x, .int y, .int z] σ (emP σ n op x y z) := by
  refine MXi1.mk (by decide) rfl (Nat.le_of_ble_eq_true rfl) ?_
  intro p e s m args below meth c A ls Q hQ E hr hlk hW hl
  have hx := E.1
  have hb := E.2.1
  have hl : lv_has ls 6 [(0, .ref (h 0)), (1, .int op), (2, .int x), (3, .int y), (4, .int z)] := hl
  have t83 : ∀ (H : Heap) (locs : List Loc) (ls : Array Slot), n < 20 → ¬ emB op x y z → XW1 D d h A s H locs σ → lv_has ls 6 [(0, .ref (h 0)), (1, .int op), (2, .int x), (3, .int y), (4, .int z)] → W p l e (rm 1 21) s m args below meth c H locs 0 0 Q (F0 m 83 ls []) := by
    intro H locs ls hk hB hW hl
    obtain ⟨jo, hjo, ejo⟩ := nI_of2 (M := 6) (n := 6) rfl (fun z1 => hB (Or.inl (Or.inl z1))) (Int32.not_lt.mp (fun z1 => hB (Or.inl (Or.inr z1))))
    obtain ⟨jx, hjx, ejx⟩ := bR_ok (fun z1 => hB (Or.inr (Or.inl z1)))
    refine lv_aload_n hx hb dX1_emit_83 rfl (lv_at hl 0 rfl) ?_
    refine xg1_op E hW dX1_emit_84 ?_
    refine lv_aload_n hx hb dX1_emit_87 rfl (lv_at hl 0 rfl) ?_
    refine xg1_n E hW dX1_emit_88 ?_
    refine lv_iload_n hx hb dX1_emit_91 rfl (lv_at hl 1 rfl) ?_
    refine xs1_op E hW hln hk dX1_emit_92 (fun H locs hW => ?_)
    refine lv_aload_n hx hb dX1_emit_93 rfl (lv_at hl 0 rfl) ?_
    refine xg1_x E hW dX1_emit_94 ?_
    refine lv_aload_n hx hb dX1_emit_97 rfl (lv_at hl 0 rfl) ?_
    refine xg1_n E hW dX1_emit_98 ?_
    refine lv_iload_n hx hb dX1_emit_101 rfl (lv_at hl 2 rfl) ?_
    refine xs1_x E hW hln hk dX1_emit_102 (fun H locs hW => ?_)
    refine lv_aload_n hx hb dX1_emit_103 rfl (lv_at hl 0 rfl) ?_
    refine xg1_y E hW dX1_emit_104 ?_
    refine lv_aload_n hx hb dX1_emit_107 rfl (lv_at hl 0 rfl) ?_
    refine xg1_n E hW dX1_emit_108 ?_
    refine lv_iload_n hx hb dX1_emit_111 rfl (lv_at hl 3 rfl) ?_
    refine xs1_y E hW hln hk dX1_emit_112 (fun H locs hW => ?_)
    refine lv_aload_n hx hb dX1_emit_113 rfl (lv_at hl 0 rfl) ?_
    refine xg1_z E hW dX1_emit_114 ?_
    refine lv_aload_n hx hb dX1_emit_117 rfl (lv_at hl 0 rfl) ?_
    refine xg1_n E hW dX1_emit_118 ?_
    refine lv_iload hx hb dX1_emit_121 (lv_at hl 4 rfl) ?_
    refine xs1_z E hW hln hk dX1_emit_123 (fun H locs hW => ?_)
    refine lv_aload_n hx hb dX1_emit_124 rfl (lv_at hl 0 rfl) ?_
    refine lv_dup hx hb dX1_emit_125 rfl ?_
    refine xg1_n E hW dX1_emit_126 ?_
    refine lv_iconst (v := 1) hx hb dX1_emit_129 (by decide) ?_
    refine lv_iadd hx hb dX1_emit_130 ?_
    rw [show (sA (sA (sA (sA σ 1 n op) 2 n x) 3 n y) 4 n z).1 0 + 1 = nI (n + 1) from (congrArg (fun z1 => z1 + 1) hln).trans (nI_1 n)]
    refine xp1_n E hW dX1_emit_131 (fun H locs hW => ?_)
    refine lv_aload_n hx hb dX1_emit_134 rfl (lv_at hl 0 rfl) ?_
    refine xg1_n E hW dX1_emit_135 ?_
    exact xiret1 E hW hQ hr hlk dX1_emit_138 (Or.inr (Or.inr ⟨hk, hB, rfl, rfl⟩))
  have t67 : ∀ (b : Int32) (H : Heap) (locs : List Loc) (ls : Array Slot), n < 20 → ¬ (op < 0 ∨ 6 < op) → ¬ bR x = 0 → ¬ (op ≠ 0 ∧ bR y = 0) → (b = 0 ↔ ¬ thr op) → XW1 D d h A s H locs σ → lv_has ls 6 [(5, .int b), (0, .ref (h 0)), (1, .int op), (2, .int x), (3, .int y), (4, .int z)] → W p l e (rm 1 21) s m args below meth c H locs 0 0 Q (F0 m 67 ls []) := by
    intro b H locs ls hk n1 n2 n3 hb3 hW hl
    refine lv_iload hx hb dX1_emit_67 (lv_at hl 0 rfl) ?_
    refine lv_if_eq (tgt := 83) hx hb dX1_emit_69 (by decide) (fun c69 => ?_) (fun c69 => ?_)
    · exact t83 _ _ ls hk (fun z1 => z1.elim n1 (fun z2 => z2.elim n2 (fun z3 => z3.elim n3 (fun z4 => hb3.mp c69 z4.1)))) hW (lv_sub hl [1, 2, 3, 4, 5] rfl)
    · refine lv_aload_n hx hb dX1_emit_72 rfl (lv_at hl 1 rfl) ?_
      refine lv_iload hx hb dX1_emit_73 (lv_at hl 5 rfl) ?_
      refine xci1 (n := 1) (mX1_isRegister l D d h σ z) E hW (lw_V q232 q234 qs15 q20 q235) ⟨rfl, rfl⟩ (by decide +kernel) ⟨Nat.le_of_ble_eq_true rfl, Nat.le_of_ble_eq_true rfl⟩ rfl hl.1 rfl (Nat.le_of_ble_eq_true rfl) dX1_emit_75 (fun r u H locs hp hW => ?_)
      obtain ⟨hu, er⟩ := hp
      have hW := hw_u1 hu hW
      subst er
      refine lv_if_ne (tgt := 83) hx hb dX1_emit_78 (by decide) (fun c78 => ?_) (fun c78 => ?_)
      · exact t83 _ _ ls hk (fun z1 => z1.elim n1 (fun z2 => z2.elim n2 (fun z3 => z3.elim n3 (fun z4 => c78 z4.2)))) hW (lv_sub hl [1, 2, 3, 4, 5] rfl)
      · refine lv_iconst (v := (-1)) hx hb dX1_emit_81 (by decide) ?_
        exact xiret1 E hW hQ hr hlk dX1_emit_82 (Or.inr (Or.inl ⟨hk, Or.inr (Or.inr (Or.inr ⟨Classical.byContradiction (fun z1 => c69 (hb3.mpr z1)), c78⟩)), rfl, rfl⟩))
  have t55 : ∀ (b : Int32) (H : Heap) (locs : List Loc) (ls : Array Slot), n < 20 → ¬ (op < 0 ∨ 6 < op) → ¬ bR x = 0 → (b = 0 ↔ ¬ thr op) → XW1 D d h A s H locs σ → lv_has ls 6 [(5, .int b), (0, .ref (h 0)), (1, .int op), (2, .int x), (3, .int y), (4, .int z)] → W p l e (rm 1 21) s m args below meth c H locs 0 0 Q (F0 m 55 ls []) := by
    intro b H locs ls hk n1 n2 hb3 hW hl
    refine lv_iload_n hx hb dX1_emit_55 rfl (lv_at hl 2 rfl) ?_
    refine lv_if_eq (tgt := 67) hx hb dX1_emit_56 (by decide) (fun c56 => ?_) (fun c56 => ?_)
    · exact t67 b _ _ ls hk n1 n2 (fun z1 => z1.1 c56) hb3 hW hl
    · refine lv_aload_n hx hb dX1_emit_59 rfl (lv_at hl 1 rfl) ?_
      refine lv_iload_n hx hb dX1_emit_60 rfl (lv_at hl 4 rfl) ?_
      refine xci1 (n := 1) (mX1_isRegister l D d h σ y) E hW (lw_V q232 q234 qs15 q20 q235) ⟨rfl, rfl⟩ (by decide +kernel) ⟨Nat.le_of_ble_eq_true rfl, Nat.le_of_ble_eq_true rfl⟩ rfl hl.1 rfl (Nat.le_of_ble_eq_true rfl) dX1_emit_61 (fun r u H locs hp hW => ?_)
      obtain ⟨hu, er⟩ := hp
      have hW := hw_u1 hu hW
      subst er
      refine lv_if_eq (tgt := 81) hx hb dX1_emit_64 (by decide) (fun c64 => ?_) (fun c64 => ?_)
      · refine lv_iconst (v := (-1)) hx hb dX1_emit_81 (by decide) ?_
        exact xiret1 E hW hQ hr hlk dX1_emit_82 (Or.inr (Or.inl ⟨hk, Or.inr (Or.inr (Or.inl ⟨c56, c64⟩)), rfl, rfl⟩))
      · exact t67 b _ _ ls hk n1 n2 (fun z1 => c64 z1.2) hb3 hW hl
  refine lv_aload_n hx hb dX1_emit_0 rfl (lv_at hl 0 rfl) ?_
  refine xg1_n E hW dX1_emit_1 ?_
  refine lv_bipush (v := (nI 20)) hx hb dX1_emit_4 (by decide) ?_
  refine lv_icmp_ne (tgt := 12) hx hb dX1_emit_6 (by decide) (fun c6 => ?_) (fun c6 => ?_)
  · have hk : n < 20 := by
      rw [hln] at c6
      have : n ≠ 20 := fun z1 => c6 (by rw [z1])
      omega
    refine lv_iload_n hx hb dX1_emit_12 rfl (lv_at hl 1 rfl) ?_
    refine lv_if_lt (tgt := 30) hx hb dX1_emit_13 (by decide) (fun c13 => ?_) (fun c13 => ?_)
    · refine lv_iconst (v := (-1)) hx hb dX1_emit_30 (by decide) ?_
      exact xiret1 E hW hQ hr hlk dX1_emit_31 (Or.inr (Or.inl ⟨hk, Or.inl (Or.inl c13), rfl, rfl⟩))
    · refine lv_iload_n hx hb dX1_emit_16 rfl (lv_at hl 1 rfl) ?_
      refine lv_bipush (v := 6) hx hb dX1_emit_17 (by decide) ?_
      refine lv_icmp_gt (tgt := 30) hx hb dX1_emit_19 (by decide) (fun c19 => ?_) (fun c19 => ?_)
      · refine lv_iconst (v := (-1)) hx hb dX1_emit_30 (by decide) ?_
        exact xiret1 E hW hQ hr hlk dX1_emit_31 (Or.inr (Or.inl ⟨hk, Or.inl (Or.inr c19), rfl, rfl⟩))
      · refine lv_aload_n hx hb dX1_emit_22 rfl (lv_at hl 0 rfl) ?_
        refine lv_iload_n hx hb dX1_emit_23 rfl (lv_at hl 2 rfl) ?_
        refine xci1 (n := 1) (mX1_isRegister l D d h σ x) E hW (lw_V q232 q234 qs15 q20 q235) ⟨rfl, rfl⟩ (by decide +kernel) ⟨Nat.le_of_ble_eq_true rfl, Nat.le_of_ble_eq_true rfl⟩ rfl hl.1 rfl (Nat.le_of_ble_eq_true rfl) dX1_emit_24 (fun r u H locs hp hW => ?_)
        obtain ⟨hu, er⟩ := hp
        have hW := hw_u1 hu hW
        subst er
        refine lv_if_ne (tgt := 32) hx hb dX1_emit_27 (by decide) (fun c27 => ?_) (fun c27 => ?_)
        · refine lv_iload_n hx hb dX1_emit_32 rfl (lv_at hl 1 rfl) ?_
          refine lv_iconst (v := 1) hx hb dX1_emit_33 (by decide) ?_
          refine lv_icmp_lt (tgt := 42) hx hb dX1_emit_34 (by decide) (fun c34 => ?_) (fun c34 => ?_)
          · refine lv_iload_n hx hb dX1_emit_42 rfl (lv_at hl 1 rfl) ?_
            refine lv_bipush (v := 6) hx hb dX1_emit_43 (by decide) ?_
            refine lv_icmp_ne (tgt := 52) hx hb dX1_emit_45 (by decide) (fun c45 => ?_) (fun c45 => ?_)
            · refine lv_iconst (v := 0) hx hb dX1_emit_52 (by decide) ?_
              refine lv_istore (lv' := [(5, .int _), (0, .ref _), (1, .int _), (2, .int _), (3, .int _), (4, .int _)]) hx hb dX1_emit_53 hl (by decide) rfl (fun ls hl => ?_)
              exact t55 0 _ _ ls hk (fun z1 => z1.elim c13 c19) c27 (⟨fun _ => fun z1 => z1.elim c45 (fun z2 => z2.1 c34), fun _ => rfl⟩) hW (lv_sub hl [0, 1, 2, 3, 4, 5] rfl)
            · refine lv_iconst (v := 1) hx hb dX1_emit_48 (by decide) ?_
              refine lv_goto (tgt := 53) hx hb dX1_emit_49 (by decide) ?_
              refine lv_istore (lv' := [(5, .int _), (0, .ref _), (1, .int _), (2, .int _), (3, .int _), (4, .int _)]) hx hb dX1_emit_53 hl (by decide) rfl (fun ls hl => ?_)
              exact t55 1 _ _ ls hk (fun z1 => z1.elim c13 c19) c27 (⟨fun z1 => absurd z1 (by decide), fun z1 => absurd ((Or.inl c45 : thr op)) z1⟩) hW (lv_sub hl [0, 1, 2, 3, 4, 5] rfl)
          · refine lv_iload_n hx hb dX1_emit_37 rfl (lv_at hl 1 rfl) ?_
            refine lv_iconst (v := 3) hx hb dX1_emit_38 (by decide) ?_
            refine lv_icmp_le (tgt := 48) hx hb dX1_emit_39 (by decide) (fun c39 => ?_) (fun c39 => ?_)
            · refine lv_iconst (v := 1) hx hb dX1_emit_48 (by decide) ?_
              refine lv_goto (tgt := 53) hx hb dX1_emit_49 (by decide) ?_
              refine lv_istore (lv' := [(5, .int _), (0, .ref _), (1, .int _), (2, .int _), (3, .int _), (4, .int _)]) hx hb dX1_emit_53 hl (by decide) rfl (fun ls hl => ?_)
              exact t55 1 _ _ ls hk (fun z1 => z1.elim c13 c19) c27 (⟨fun z1 => absurd z1 (by decide), fun z1 => absurd ((Or.inr ⟨c34, i_nlt c39⟩ : thr op)) z1⟩) hW (lv_sub hl [0, 1, 2, 3, 4, 5] rfl)
            · refine lv_iload_n hx hb dX1_emit_42 rfl (lv_at hl 1 rfl) ?_
              refine lv_bipush (v := 6) hx hb dX1_emit_43 (by decide) ?_
              refine lv_icmp_ne (tgt := 52) hx hb dX1_emit_45 (by decide) (fun c45 => ?_) (fun c45 => ?_)
              · refine lv_iconst (v := 0) hx hb dX1_emit_52 (by decide) ?_
                refine lv_istore (lv' := [(5, .int _), (0, .ref _), (1, .int _), (2, .int _), (3, .int _), (4, .int _)]) hx hb dX1_emit_53 hl (by decide) rfl (fun ls hl => ?_)
                exact t55 0 _ _ ls hk (fun z1 => z1.elim c13 c19) c27 (⟨fun _ => fun z1 => z1.elim c45 (fun z2 => z2.2 (Int32.not_le.mp c39)), fun _ => rfl⟩) hW (lv_sub hl [0, 1, 2, 3, 4, 5] rfl)
              · refine lv_iconst (v := 1) hx hb dX1_emit_48 (by decide) ?_
                refine lv_goto (tgt := 53) hx hb dX1_emit_49 (by decide) ?_
                refine lv_istore (lv' := [(5, .int _), (0, .ref _), (1, .int _), (2, .int _), (3, .int _), (4, .int _)]) hx hb dX1_emit_53 hl (by decide) rfl (fun ls hl => ?_)
                exact t55 1 _ _ ls hk (fun z1 => z1.elim c13 c19) c27 (⟨fun z1 => absurd z1 (by decide), fun z1 => absurd ((Or.inl c45 : thr op)) z1⟩) hW (lv_sub hl [0, 1, 2, 3, 4, 5] rfl)
        · refine lv_iconst (v := (-1)) hx hb dX1_emit_30 (by decide) ?_
          exact xiret1 E hW hQ hr hlk dX1_emit_31 (Or.inr (Or.inl ⟨hk, Or.inr (Or.inl c27), rfl, rfl⟩))
  · have e : n = 20 := by rw [hln] at c6; exact nI_inj (by omega) (by omega) c6
    refine lv_bipush (v := (-2)) hx hb dX1_emit_9 (by decide) ?_
    exact xiret1 E hW hQ hr hlk dX1_emit_11 (Or.inl ⟨e, rfl, rfl⟩)
/-! ===== written ===== -/
def sW (wr : Nat → Int32) : Nat → Int32
  | 0 => 0
  | k + 1 => sW wr k + wr k
set_option maxHeartbeats 4000000 in
theorem mX0_written (l : Launch) (D : va_G) (d : Nat → ClassId) (h : Nat → Nat) (σ : SX) (wr : Nat → Int32) (hwb : wbk (σ.1 8) wr) : MXi0 l yX0_written cX0_written 3 (some .int) (rm 0 0) D d h [] σ (fun v u => u = σ ∧ v = sW wr 16) := by
  refine MXi0.mk (by decide) rfl (Nat.le_of_ble_eq_true rfl) ?_
  intro p e s m args below meth c A ls Q hQ E hr hlk hW hl
  have hx := E.1
  have hb := E.2.1
  have hl : lv_has ls 3 [(0, .ref (h 0))] := hl
  have loop : ∀ (w k : Nat) (H : Heap) (locs : List Loc) (ls : Array Slot), k + w = 16 → XW0 D d h A s H locs σ → lv_has ls 3 [(2, .int (nI k)), (1, .int (sW wr k)), (0, .ref (h 0))] → W p l e (rm 0 0) s m args below meth c H locs 0 0 Q (F0 m 4 ls []) := by
    intro w
    induction w with
    | zero =>
      intro k H locs ls hkw hW hl
      refine lv_iload_n hx hb dX0_written_4 rfl (lv_at hl 0 rfl) ?_
      refine lv_bipush (v := (nI 16)) hx hb dX0_written_5 (by decide) ?_
      refine lv_icmp_ge (tgt := 27) hx hb dX0_written_7 (by decide) (fun c7 => ?_) (fun c7 => ?_)
      · have e : k = 16 := by omega
        subst e
        refine lv_iload_n hx hb dX0_written_27 rfl (lv_at hl 1 rfl) ?_
        exact xiret0 E hW hQ hr hlk dX0_written_28 (⟨rfl, rfl⟩)
      · exact absurd (nI_le (by omega) (by omega)) c7
    | succ w ih =>
      intro k H locs ls hkw hW hl
      refine lv_iload_n hx hb dX0_written_4 rfl (lv_at hl 0 rfl) ?_
      refine lv_bipush (v := (nI 16)) hx hb dX0_written_5 (by decide) ?_
      refine lv_icmp_ge (tgt := 27) hx hb dX0_written_7 (by decide) (fun c7 => ?_) (fun c7 => ?_)
      · exact absurd (n_le (by omega) (by omega) c7) (by omega)
      · refine lv_iload_n hx hb dX0_written_10 rfl (lv_at hl 1 rfl) ?_
        refine lv_aload_n hx hb dX0_written_11 rfl (lv_at hl 2 rfl) ?_
        refine xg0_writtenCells E hW dX0_written_12 ?_
        refine lv_iload_n hx hb dX0_written_15 rfl (lv_at hl 0 rfl) ?_
        refine lv_ishr hx hb dX0_written_16 ?_
        refine lv_iconst (v := 1) hx hb dX0_written_17 (by decide) ?_
        refine lv_iand hx hb dX0_written_18 ?_
        refine lv_iadd hx hb dX0_written_19 ?_
        rw [hwb k (by omega)]
        refine lv_istore_n (lv' := [(1, .int (sW wr (k + 1))), (2, .int _), (0, .ref _)]) hx hb dX0_written_20 rfl hl (by decide) rfl (fun ls hl => ?_)
        refine lv_iinc (v := (nI (k + 1))) (lv' := [(2, .int (nI (k + 1))), (1, .int _), (0, .ref _)]) hx hb dX0_written_21 hl (k := 1) rfl (ii1 _) (by decide) rfl (fun ls hl => ?_)
        refine lv_goto (tgt := 4) hx hb dX0_written_24 (by decide) ?_
        exact ih (k + 1) _ _ ls (by omega) hW (lv_sub hl [0, 1, 2] rfl)
  refine lv_iconst (v := 0) hx hb dX0_written_0 (by decide) ?_
  refine lv_istore_n (lv' := [(1, .int (sW wr 0)), (0, .ref _)]) hx hb dX0_written_1 rfl hl (by decide) rfl (fun ls hl => ?_)
  refine lv_iconst (v := 0) hx hb dX0_written_2 (by decide) ?_
  refine lv_istore_n (lv' := [(2, .int (nI 0)), (1, .int _), (0, .ref _)]) hx hb dX0_written_3 rfl hl (by decide) rfl (fun ls hl => ?_)
  exact loop 16 0 _ _ ls (by omega) hW (lv_sub hl [0, 1, 2] rfl)
set_option maxHeartbeats 4000000 in
theorem mX1_written (l : Launch) (D : va_G) (d : Nat → ClassId) (h : Nat → Nat) (σ : SX) (wr : Nat → Int32) (hwb : ∀ j, j < 16 → σ.2 8 j = wr j ∧ (wr j = 0 ∨ wr j = 1)) : MXi1 l yX1_written cX1_written 3 (some .int) (rm 0 0) D d h [] σ (fun v u => u = σ ∧ v = sW wr 16) := by
  refine MXi1.mk (by decide) rfl (Nat.le_of_ble_eq_true rfl) ?_
  intro p e s m args below meth c A ls Q hQ E hr hlk hW hl
  have hx := E.1
  have hb := E.2.1
  have hl : lv_has ls 3 [(0, .ref (h 0))] := hl
  have loop : ∀ (w k : Nat) (H : Heap) (locs : List Loc) (ls : Array Slot), k + w = 16 → XW1 D d h A s H locs σ → lv_has ls 3 [(2, .int (nI k)), (1, .int (sW wr k)), (0, .ref (h 0))] → W p l e (rm 0 0) s m args below meth c H locs 0 0 Q (F0 m 4 ls []) := by
    intro w
    induction w with
    | zero =>
      intro k H locs ls hkw hW hl
      refine lv_iload_n hx hb dX1_written_4 rfl (lv_at hl 0 rfl) ?_
      refine lv_bipush (v := (nI 16)) hx hb dX1_written_5 (by decide) ?_
      refine lv_icmp_ge (tgt := 28) hx hb dX1_written_7 (by decide) (fun c7 => ?_) (fun c7 => ?_)
      · have e : k = 16 := by omega
        subst e
        refine lv_iload_n hx hb dX1_written_28 rfl (lv_at hl 1 rfl) ?_
        exact xiret1 E hW hQ hr hlk dX1_written_29 (⟨rfl, rfl⟩)
      · exact absurd (nI_le (by omega) (by omega)) c7
    | succ w ih =>
      intro k H locs ls hkw hW hl
      refine lv_iload_n hx hb dX1_written_4 rfl (lv_at hl 0 rfl) ?_
      refine lv_bipush (v := (nI 16)) hx hb dX1_written_5 (by decide) ?_
      refine lv_icmp_ge (tgt := 28) hx hb dX1_written_7 (by decide) (fun c7 => ?_) (fun c7 => ?_)
      · exact absurd (n_le (by omega) (by omega) c7) (by omega)
      · obtain ⟨e8, hz⟩ := hwb k (by omega)
        refine lv_aload_n hx hb dX1_written_10 rfl (lv_at hl 2 rfl) ?_
        refine xg1_wrote E hW dX1_written_11 ?_
        refine lv_iload_n hx hb dX1_written_14 rfl (lv_at hl 0 rfl) ?_
        refine xl1_wrote E hW rfl (by omega) dX1_written_15 ?_
        refine lv_if_eq (tgt := 22) hx hb dX1_written_16 (by decide) (fun c16 => ?_) (fun c16 => ?_)
        · have e0 : wr k = 0 := e8.symm.trans c16
          have es : sW wr k = sW wr (k + 1) := by
            show _ = sW wr k + wr k
            rw [e0, Int32.add_zero]
          rw [es] at hl
          refine lv_iinc (v := (nI (k + 1))) (lv' := [(2, .int (nI (k + 1))), (1, .int _), (0, .ref _)]) hx hb dX1_written_22 hl (k := 0) rfl (ii1 _) (by decide) rfl (fun ls hl => ?_)
          refine lv_goto (tgt := 4) hx hb dX1_written_25 (by decide) ?_
          exact ih (k + 1) _ _ ls (by omega) hW (lv_sub hl [0, 1, 2] rfl)
        · have e1 : wr k = 1 := hz.resolve_left (fun z1 => c16 (e8.trans z1))
          refine lv_iinc (v := (sW wr (k + 1))) (lv' := [(1, .int (sW wr (k + 1))), (2, .int _), (0, .ref _)]) hx hb dX1_written_19 hl (k := 1) rfl (by show _ = sW wr k + wr k; rw [e1]; rfl) (by decide) rfl (fun ls hl => ?_)
          refine lv_iinc (v := (nI (k + 1))) (lv' := [(2, .int (nI (k + 1))), (1, .int _), (0, .ref _)]) hx hb dX1_written_22 hl (k := 1) rfl (ii1 _) (by decide) rfl (fun ls hl => ?_)
          refine lv_goto (tgt := 4) hx hb dX1_written_25 (by decide) ?_
          exact ih (k + 1) _ _ ls (by omega) hW (lv_sub hl [0, 1, 2] rfl)
  refine lv_iconst (v := 0) hx hb dX1_written_0 (by decide) ?_
  refine lv_istore_n (lv' := [(1, .int (sW wr 0)), (0, .ref _)]) hx hb dX1_written_1 rfl hl (by decide) rfl (fun ls hl => ?_)
  refine lv_iconst (v := 0) hx hb dX1_written_2 (by decide) ?_
  refine lv_istore_n (lv' := [(2, .int (nI 0)), (1, .int _), (0, .ref _)]) hx hb dX1_written_3 rfl hl (by decide) rfl (fun ls hl => ?_)
  exact loop 16 0 _ _ ls (by omega) hW (lv_sub hl [0, 1, 2] rfl)
end
section
set_option maxRecDepth 100000
theorem pg_thr {a : Nat → Nat → Int32} {n k : Nat} (h : pg_ok a n) (hk : k < n) (c0 : a 1 k ≠ 0) (c4 : a 1 k ≠ 4) (c5 : a 1 k ≠ 5) : thr (a 1 k) := by
  obtain ⟨o, ho, eo⟩ := (h k hk).1
  rw [eo] at c0 c4 c5 ⊢
  match o, ho with
  | 0, _ => exact absurd rfl c0
  | 1, _ => exact Or.inr (by decide +kernel)
  | 2, _ => exact Or.inr (by decide +kernel)
  | 3, _ => exact Or.inr (by decide +kernel)
  | 4, _ => exact absurd rfl c4
  | 5, _ => exact absurd rfl c5
  | 6, _ => exact Or.inl rfl
def mq (τ : SX) : Sq := (τ.2 5, τ.2 6, τ.2 8, τ.1 7)
def exP (τ : SX) (k : Nat) (u : SX) : Prop := u.1 0 = τ.1 0 ∧ P4 τ u ∧ mq u = sqStep (τ.2 1) (τ.2 2) (τ.2 3) (τ.2 4) k (mq τ)
def clr (f : Nat → Int32) : Nat → Nat → Int32
  | 0 => f
  | k + 1 => upd (clr f k) k 0
theorem clr_0 (f : Nat → Int32) : ∀ k c, c < k → clr f k c = 0 := by
  intro k
  induction k with
  | zero => intro c hc; exact absurd hc (Nat.not_lt_zero _)
  | succ k ih =>
    intro c hc
    show upd (clr f k) k 0 c = 0
    unfold upd
    by_cases h : c = k
    · rw [if_pos h]
    · rw [if_neg h]; exact ih c (by omega)
set_option maxHeartbeats 4000000 in
theorem mX1_result (l : Launch) (D : va_G) (d : Nat → ClassId) (h : Nat → Nat) (σ : SX) {n k : Nat} (hn : n ≤ 20) (hkn : k < n) (hpg : pg_ok σ.2 n) (c4 : σ.2 1 k ≠ 4) (c5 : σ.2 1 k ≠ 5) : MXi1 l yX1_result cX1_result 4 (some .int) (rm 0 0) D d h [.int (nI k)] σ (fun v u => u = σ ∧ v = sqV (σ.2 1) (σ.2 2) (σ.2 3) (σ.2 4) (σ.2 5) k) := by
  refine MXi1.mk (by decide) rfl (Nat.le_of_ble_eq_true rfl) ?_
  intro p e s m args below meth c A ls Q hQ E hr hlk hW hl
  have hx := E.1
  have hb := E.2.1
  have hl : lv_has ls 4 [(0, .ref (h 0)), (1, .int (nI k))] := hl
  have hk : k < 20 := by omega
  obtain ⟨-, ⟨rx, hrx, erx⟩, hy0, hz0⟩ := hpg k hkn
  have etx : tn (σ.2 2 k) = rx := by rw [erx, tn_nI (by omega)]
  refine lv_aload_n hx hb dX1_result_0 rfl (lv_at hl 0 rfl) ?_
  refine xg1_op E hW dX1_result_1 ?_
  refine lv_iload_n hx hb dX1_result_4 rfl (lv_at hl 1 rfl) ?_
  refine xl1_op E hW rfl hk dX1_result_5 ?_
  refine lv_if_ne (tgt := 16) hx hb dX1_result_6 (by decide) (fun c6 => ?_) (fun c6 => ?_)
  · obtain ⟨ry, hry, ery⟩ := hy0 c6
    obtain ⟨rz, hrz, erz⟩ := hz0 (pg_thr hpg hkn c6 c4 c5)
    have ety : tn (σ.2 3 k) = ry := by rw [ery, tn_nI (by omega)]
    have etz : tn (σ.2 4 k) = rz := by rw [erz, tn_nI (by omega)]
    refine lv_aload_n hx hb dX1_result_16 rfl (lv_at hl 0 rfl) ?_
    refine xg1_regs E hW dX1_result_17 ?_
    refine lv_aload_n hx hb dX1_result_20 rfl (lv_at hl 0 rfl) ?_
    refine xg1_y E hW dX1_result_21 ?_
    refine lv_iload_n hx hb dX1_result_24 rfl (lv_at hl 1 rfl) ?_
    refine xl1_y E hW rfl hk dX1_result_25 ?_
    refine xl1_regs E hW ery hry dX1_result_26 ?_
    refine lv_istore_n (lv' := [(2, .int _), (0, .ref _), (1, .int _)]) hx hb dX1_result_27 rfl hl (by decide) rfl (fun ls hl => ?_)
    refine lv_aload_n hx hb dX1_result_28 rfl (lv_at hl 1 rfl) ?_
    refine xg1_op E hW dX1_result_29 ?_
    refine lv_iload_n hx hb dX1_result_32 rfl (lv_at hl 2 rfl) ?_
    refine xl1_op E hW rfl hk dX1_result_33 ?_
    refine lv_bipush (v := 6) hx hb dX1_result_34 (by decide) ?_
    refine lv_icmp_ne (tgt := 69) hx hb dX1_result_36 (by decide) (fun c36 => ?_) (fun c36 => ?_)
    · refine lv_aload_n hx hb dX1_result_69 rfl (lv_at hl 1 rfl) ?_
      refine xg1_regs E hW dX1_result_70 ?_
      refine lv_aload_n hx hb dX1_result_73 rfl (lv_at hl 1 rfl) ?_
      refine xg1_z E hW dX1_result_74 ?_
      refine lv_iload_n hx hb dX1_result_77 rfl (lv_at hl 2 rfl) ?_
      refine xl1_z E hW rfl hk dX1_result_78 ?_
      refine xl1_regs E hW erz hrz dX1_result_79 ?_
      refine lv_istore_n (lv' := [(3, .int _), (2, .int _), (0, .ref _), (1, .int _)]) hx hb dX1_result_80 rfl hl (by decide) rfl (fun ls hl => ?_)
      refine lv_aload_n hx hb dX1_result_81 rfl (lv_at hl 2 rfl) ?_
      refine xg1_op E hW dX1_result_82 ?_
      refine lv_iload_n hx hb dX1_result_85 rfl (lv_at hl 3 rfl) ?_
      refine xl1_op E hW rfl hk dX1_result_86 ?_
      refine lv_iconst (v := 1) hx hb dX1_result_87 (by decide) ?_
      refine lv_icmp_ne (tgt := 97) hx hb dX1_result_88 (by decide) (fun c88 => ?_) (fun c88 => ?_)
      · refine lv_aload_n hx hb dX1_result_97 rfl (lv_at hl 2 rfl) ?_
        refine xg1_op E hW dX1_result_98 ?_
        refine lv_iload_n hx hb dX1_result_101 rfl (lv_at hl 3 rfl) ?_
        refine xl1_op E hW rfl hk dX1_result_102 ?_
        refine lv_iconst (v := 2) hx hb dX1_result_103 (by decide) ?_
        refine lv_icmp_ne (tgt := 113) hx hb dX1_result_104 (by decide) (fun c104 => ?_) (fun c104 => ?_)
        · refine lv_iload_n hx hb dX1_result_113 rfl (lv_at hl 1 rfl) ?_
          refine lv_iload_n hx hb dX1_result_114 rfl (lv_at hl 0 rfl) ?_
          refine lv_imul hx hb dX1_result_115 ?_
          exact xiret1 E hW hQ hr hlk dX1_result_116 (⟨rfl, by unfold sqV; rw [if_neg c6, if_neg c36, if_neg c88, if_neg c104, ety, etz]⟩)
        · refine lv_iload_n hx hb dX1_result_107 rfl (lv_at hl 1 rfl) ?_
          refine lv_iload_n hx hb dX1_result_108 rfl (lv_at hl 0 rfl) ?_
          refine lv_isub hx hb dX1_result_109 ?_
          refine lv_goto (tgt := 116) hx hb dX1_result_110 (by decide) ?_
          exact xiret1 E hW hQ hr hlk dX1_result_116 (⟨rfl, by unfold sqV; rw [if_neg c6, if_neg c36, if_neg c88, if_pos c104, ety, etz]⟩)
      · refine lv_iload_n hx hb dX1_result_91 rfl (lv_at hl 1 rfl) ?_
        refine lv_iload_n hx hb dX1_result_92 rfl (lv_at hl 0 rfl) ?_
        refine lv_iadd hx hb dX1_result_93 ?_
        refine lv_goto (tgt := 116) hx hb dX1_result_94 (by decide) ?_
        exact xiret1 E hW hQ hr hlk dX1_result_116 (⟨rfl, by unfold sqV; rw [if_neg c6, if_neg c36, if_pos c88, ety, etz]⟩)
    · refine lv_iload_n hx hb dX1_result_39 rfl (lv_at hl 0 rfl) ?_
      refine lv_if_le (tgt := 57) hx hb dX1_result_40 (by decide) (fun c40 => ?_) (fun c40 => ?_)
      · refine lv_aload_n hx hb dX1_result_57 rfl (lv_at hl 1 rfl) ?_
        refine xg1_regs E hW dX1_result_58 ?_
        refine lv_aload_n hx hb dX1_result_61 rfl (lv_at hl 1 rfl) ?_
        refine xg1_x E hW dX1_result_62 ?_
        refine lv_iload_n hx hb dX1_result_65 rfl (lv_at hl 2 rfl) ?_
        refine xl1_x E hW rfl hk dX1_result_66 ?_
        refine xl1_regs E hW erx hrx dX1_result_67 ?_
        exact xiret1 E hW hQ hr hlk dX1_result_68 (⟨rfl, by unfold sqV; rw [if_neg c6, if_pos c36, ety, if_pos c40, etx]⟩)
      · refine lv_aload_n hx hb dX1_result_43 rfl (lv_at hl 1 rfl) ?_
        refine xg1_regs E hW dX1_result_44 ?_
        refine lv_aload_n hx hb dX1_result_47 rfl (lv_at hl 1 rfl) ?_
        refine xg1_z E hW dX1_result_48 ?_
        refine lv_iload_n hx hb dX1_result_51 rfl (lv_at hl 2 rfl) ?_
        refine xl1_z E hW rfl hk dX1_result_52 ?_
        refine xl1_regs E hW erz hrz dX1_result_53 ?_
        refine lv_goto (tgt := 68) hx hb dX1_result_54 (by decide) ?_
        exact xiret1 E hW hQ hr hlk dX1_result_68 (⟨rfl, by unfold sqV; rw [if_neg c6, if_pos c36, ety, if_neg c40, etz]⟩)
  · refine lv_aload_n hx hb dX1_result_9 rfl (lv_at hl 0 rfl) ?_
    refine xg1_y E hW dX1_result_10 ?_
    refine lv_iload_n hx hb dX1_result_13 rfl (lv_at hl 1 rfl) ?_
    refine xl1_y E hW rfl hk dX1_result_14 ?_
    exact xiret1 E hW hQ hr hlk dX1_result_15 (⟨rfl, by unfold sqV; rw [if_pos c6]⟩)
set_option maxHeartbeats 4000000 in
theorem mX1_execute (l : Launch) (D : va_G) (d : Nat → ClassId) (h : Nat → Nat) (σ : SX) {n k : Nat} (hn : n ≤ 20) (hkn : k < n) (hpg : pg_ok σ.2 n) : MXv1 l yX1_execute cX1_execute 3 (rm 1 23) D d h [.int (nI k)] σ (exP σ k) := by
  refine MXv1.mk (by decide) rfl (Nat.le_of_ble_eq_true rfl) ?_
  intro p e s m args below meth c A ls Q hQ E hr hlk hW hl
  have hx := E.1
  have hb := E.2.1
  have hl : lv_has ls 3 [(0, .ref (h 0)), (1, .int (nI k))] := hl
  have hk : k < 20 := by omega
  obtain ⟨-, ⟨rx, hrx, erx⟩, hy0, hz0⟩ := hpg k hkn
  have etx : tn (σ.2 2 k) = rx := by rw [erx, tn_nI (by omega)]
  have t20 : ∀ (H : Heap) (locs : List Loc) (ls : Array Slot), (σ.2 1 k = 4 ∨ σ.2 1 k = 5) → XW1 D d h A s H locs σ → lv_has ls 3 [(0, .ref (h 0)), (1, .int (nI k))] → W p l e (rm 1 23) s m args below meth c H locs 0 0 Q (F0 m 20 ls []) := by
    intro H locs ls h45 hW hl
    have c0 : σ.2 1 k ≠ 0 := by
      rcases h45 with z | z
      · rw [z]; decide
      · rw [z]; decide
    obtain ⟨ry, hry, ery⟩ := hy0 c0
    have ety : tn (σ.2 3 k) = ry := by rw [ery, tn_nI (by omega)]
    refine lv_aload_n hx hb dX1_execute_20 rfl (lv_at hl 0 rfl) ?_
    refine xg1_regs E hW dX1_execute_21 ?_
    refine lv_aload_n hx hb dX1_execute_24 rfl (lv_at hl 0 rfl) ?_
    refine xg1_y E hW dX1_execute_25 ?_
    refine lv_iload_n hx hb dX1_execute_28 rfl (lv_at hl 1 rfl) ?_
    refine xl1_y E hW rfl hk dX1_execute_29 ?_
    refine xl1_regs E hW ery hry dX1_execute_30 ?_
    refine lv_aload_n hx hb dX1_execute_31 rfl (lv_at hl 0 rfl) ?_
    refine xg1_z E hW dX1_execute_32 ?_
    refine lv_iload_n hx hb dX1_execute_35 rfl (lv_at hl 1 rfl) ?_
    refine xl1_z E hW rfl hk dX1_execute_36 ?_
    refine lv_iadd hx hb dX1_execute_37 ?_
    refine lv_bipush (v := 15) hx hb dX1_execute_38 (by decide) ?_
    refine lv_iand hx hb dX1_execute_40 ?_
    obtain ⟨cn, hcn, ecn⟩ := pk_andE (σ.2 5 ry + σ.2 4 k) (m := 15) 4 rfl
    rw [ecn]
    have hC : sqC (σ.2 3) (σ.2 4) (σ.2 5) k = cn := by unfold sqC; rw [ety, ecn, tn_nI (by omega)]
    refine lv_istore_n (lv' := [(2, .int (nI cn)), (0, .ref _), (1, .int _)]) hx hb dX1_execute_41 rfl hl (by decide) rfl (fun ls hl => ?_)
    refine lv_aload_n hx hb dX1_execute_42 rfl (lv_at hl 1 rfl) ?_
    refine xg1_op E hW dX1_execute_43 ?_
    refine lv_iload_n hx hb dX1_execute_46 rfl (lv_at hl 2 rfl) ?_
    refine xl1_op E hW rfl hk dX1_execute_47 ?_
    refine lv_iconst (v := 5) hx hb dX1_execute_48 (by decide) ?_
    refine lv_icmp_ne (tgt := 79) hx hb dX1_execute_49 (by decide) (fun c49 => ?_) (fun c49 => ?_)
    · have c4 : σ.2 1 k = 4 := h45.resolve_right c49
      refine lv_aload_n hx hb dX1_execute_79 rfl (lv_at hl 1 rfl) ?_
      refine xg1_wrote E hW dX1_execute_80 ?_
      refine lv_iload_n hx hb dX1_execute_83 rfl (lv_at hl 0 rfl) ?_
      refine xl1_wrote E hW rfl hcn dX1_execute_84 ?_
      refine lv_if_eq (tgt := 98) hx hb dX1_execute_85 (by decide) (fun c85 => ?_) (fun c85 => ?_)
      · refine lv_aload_n hx hb dX1_execute_98 rfl (lv_at hl 1 rfl) ?_
        refine xg1_regs E hW dX1_execute_99 ?_
        refine lv_aload_n hx hb dX1_execute_102 rfl (lv_at hl 1 rfl) ?_
        refine xg1_x E hW dX1_execute_103 ?_
        refine lv_iload_n hx hb dX1_execute_106 rfl (lv_at hl 2 rfl) ?_
        refine xl1_x E hW rfl hk dX1_execute_107 ?_
        refine lv_aload_n hx hb dX1_execute_108 rfl (lv_at hl 1 rfl) ?_
        refine xg1_cells E hW dX1_execute_109 ?_
        refine lv_iload_n hx hb dX1_execute_112 rfl (lv_at hl 0 rfl) ?_
        refine xl1_cells E hW rfl hcn dX1_execute_113 ?_
        refine xs1_regs E hW erx hrx dX1_execute_114 (fun H locs hW => ?_)
        refine lv_goto (tgt := 136) hx hb dX1_execute_115 (by decide) ?_
        exact xvret1 E hW hQ hr hlk dX1_execute_136 (⟨rfl, P4.rf, by unfold sqStep; rw [if_pos c4]; unfold mq; rw [hC, etx, if_pos c85] <;> rfl⟩)
      · refine lv_aload_n hx hb dX1_execute_88 rfl (lv_at hl 1 rfl) ?_
        refine lv_dup hx hb dX1_execute_89 rfl ?_
        refine xg1_fed E hW dX1_execute_90 ?_
        refine lv_iconst (v := 1) hx hb dX1_execute_93 (by decide) ?_
        refine lv_iadd hx hb dX1_execute_94 ?_
        refine xp1_fed E hW dX1_execute_95 (fun H locs hW => ?_)
        refine lv_aload_n hx hb dX1_execute_98 rfl (lv_at hl 1 rfl) ?_
        refine xg1_regs E hW dX1_execute_99 ?_
        refine lv_aload_n hx hb dX1_execute_102 rfl (lv_at hl 1 rfl) ?_
        refine xg1_x E hW dX1_execute_103 ?_
        refine lv_iload_n hx hb dX1_execute_106 rfl (lv_at hl 2 rfl) ?_
        refine xl1_x E hW rfl hk dX1_execute_107 ?_
        refine lv_aload_n hx hb dX1_execute_108 rfl (lv_at hl 1 rfl) ?_
        refine xg1_cells E hW dX1_execute_109 ?_
        refine lv_iload_n hx hb dX1_execute_112 rfl (lv_at hl 0 rfl) ?_
        refine xl1_cells E hW rfl hcn dX1_execute_113 ?_
        refine xs1_regs E hW erx hrx dX1_execute_114 (fun H locs hW => ?_)
        refine lv_goto (tgt := 136) hx hb dX1_execute_115 (by decide) ?_
        exact xvret1 E hW hQ hr hlk dX1_execute_136 (⟨rfl, P4.rf, by unfold sqStep; rw [if_pos c4]; unfold mq; rw [hC, etx, if_neg c85] <;> rfl⟩)
    · refine lv_aload_n hx hb dX1_execute_52 rfl (lv_at hl 1 rfl) ?_
      refine xg1_cells E hW dX1_execute_53 ?_
      refine lv_iload_n hx hb dX1_execute_56 rfl (lv_at hl 0 rfl) ?_
      refine lv_aload_n hx hb dX1_execute_57 rfl (lv_at hl 1 rfl) ?_
      refine xg1_regs E hW dX1_execute_58 ?_
      refine lv_aload_n hx hb dX1_execute_61 rfl (lv_at hl 1 rfl) ?_
      refine xg1_x E hW dX1_execute_62 ?_
      refine lv_iload_n hx hb dX1_execute_65 rfl (lv_at hl 2 rfl) ?_
      refine xl1_x E hW rfl hk dX1_execute_66 ?_
      refine xl1_regs E hW erx hrx dX1_execute_67 ?_
      refine xs1_cells E hW rfl hcn dX1_execute_68 (fun H locs hW => ?_)
      refine lv_aload_n hx hb dX1_execute_69 rfl (lv_at hl 1 rfl) ?_
      refine xg1_wrote E hW dX1_execute_70 ?_
      refine lv_iload_n hx hb dX1_execute_73 rfl (lv_at hl 0 rfl) ?_
      refine lv_iconst (v := 1) hx hb dX1_execute_74 (by decide) ?_
      refine xs1_wrote E hW rfl hcn (by decide +kernel : vp_nar .boolean 1 = 1) dX1_execute_75 (fun H locs hW => ?_)
      refine lv_goto (tgt := 115) hx hb dX1_execute_76 (by decide) ?_
      refine lv_goto (tgt := 136) hx hb dX1_execute_115 (by decide) ?_
      exact xvret1 E hW hQ hr hlk dX1_execute_136 (⟨rfl, P4.rf, by unfold sqStep; rw [if_neg (by rw [c49]; decide), if_pos c49]; unfold mq; rw [hC, etx] <;> rfl⟩)
  refine lv_aload_n hx hb dX1_execute_0 rfl (lv_at hl 0 rfl) ?_
  refine xg1_op E hW dX1_execute_1 ?_
  refine lv_iload_n hx hb dX1_execute_4 rfl (lv_at hl 1 rfl) ?_
  refine xl1_op E hW rfl hk dX1_execute_5 ?_
  refine lv_iconst (v := 4) hx hb dX1_execute_6 (by decide) ?_
  refine lv_icmp_eq (tgt := 20) hx hb dX1_execute_7 (by decide) (fun c7 => ?_) (fun c7 => ?_)
  · exact t20 _ _ ls (Or.inl c7) hW hl
  · refine lv_aload_n hx hb dX1_execute_10 rfl (lv_at hl 0 rfl) ?_
    refine xg1_op E hW dX1_execute_11 ?_
    refine lv_iload_n hx hb dX1_execute_14 rfl (lv_at hl 1 rfl) ?_
    refine xl1_op E hW rfl hk dX1_execute_15 ?_
    refine lv_iconst (v := 5) hx hb dX1_execute_16 (by decide) ?_
    refine lv_icmp_ne (tgt := 118) hx hb dX1_execute_17 (by decide) (fun c17 => ?_) (fun c17 => ?_)
    · refine lv_aload_n hx hb dX1_execute_118 rfl (lv_at hl 0 rfl) ?_
      refine lv_iload_n hx hb dX1_execute_119 rfl (lv_at hl 1 rfl) ?_
      refine xci1 (n := 1) (mX1_result l D d h σ hn hkn hpg c7 c17) E hW (lw_V q252 q254 qs17 q20 q255) ⟨rfl, rfl⟩ (by decide +kernel) ⟨Nat.le_of_ble_eq_true rfl, Nat.le_of_ble_eq_true rfl⟩ rfl hl.1 rfl (Nat.le_of_ble_eq_true rfl) dX1_execute_120 (fun r u H locs hp hW => ?_)
      obtain ⟨hu, er⟩ := hp
      have hW := hw_u1 hu hW
      subst er
      refine lv_istore_n (lv' := [(2, .int _), (0, .ref _), (1, .int _)]) hx hb dX1_execute_123 rfl hl (by decide) rfl (fun ls hl => ?_)
      refine lv_aload_n hx hb dX1_execute_124 rfl (lv_at hl 1 rfl) ?_
      refine xg1_regs E hW dX1_execute_125 ?_
      refine lv_aload_n hx hb dX1_execute_128 rfl (lv_at hl 1 rfl) ?_
      refine xg1_x E hW dX1_execute_129 ?_
      refine lv_iload_n hx hb dX1_execute_132 rfl (lv_at hl 2 rfl) ?_
      refine xl1_x E hW rfl hk dX1_execute_133 ?_
      refine lv_iload_n hx hb dX1_execute_134 rfl (lv_at hl 0 rfl) ?_
      refine xs1_regs E hW erx hrx dX1_execute_135 (fun H locs hW => ?_)
      exact xvret1 E hW hQ hr hlk dX1_execute_136 (⟨rfl, P4.rf, by unfold sqStep; rw [if_neg c7, if_neg c17]; unfold mq; rw [etx] <;> rfl⟩)
    · exact t20 _ _ ls (Or.inr c17) hW hl
def rnP (τ : SX) (n : Nat) (v : Int32) (u : SX) : Prop := v = nI n ∧ u.1 0 = nI n ∧ P4 τ u ∧ mq u = sqN (τ.2 1) (τ.2 2) (τ.2 3) (τ.2 4) (τ.2 5, τ.2 6, clr (τ.2 8) 16, 0) n
set_option maxHeartbeats 4000000 in
theorem mX1_run (l : Launch) (D : va_G) (d : Nat → ClassId) (h : Nat → Nat) (σ : SX) {n : Nat} (seed : Int32) (hn : n ≤ 20) (hln : σ.1 0 = nI n) (hpg : pg_ok σ.2 n) : MXi1 l yX1_run cX1_run 3 (some .int) (rm 2 45) D d h [.int seed] σ (rnP σ n) := by
  refine MXi1.mk (by decide) rfl (Nat.le_of_ble_eq_true rfl) ?_
  intro p e s m args below meth c A ls Q hQ E hr hlk hW hl
  have hx := E.1
  have hb := E.2.1
  have hl : lv_has ls 3 [(0, .ref (h 0)), (1, .int seed)] := hl
  have loop2 : ∀ (w k : Nat) (u : SX) (H : Heap) (locs : List Loc) (ls : Array Slot), k + w = n → u.1 0 = nI n → P4 σ u → mq u = sqN (σ.2 1) (σ.2 2) (σ.2 3) (σ.2 4) (σ.2 5, σ.2 6, clr (σ.2 8) 16, 0) k → XW1 D d h A s H locs u → lv_has ls 3 [(2, .int (nI k)), (0, .ref (h 0))] → W p l e (rm 2 45) s m args below meth c H locs 0 0 Q (F0 m 28 ls []) := by
    intro w
    induction w with
    | zero =>
      intro k u H locs ls hkw hu0 hP hm hW hl
      refine lv_iload_n hx hb dX1_run_28 rfl (lv_at hl 0 rfl) ?_
      refine lv_aload_n hx hb dX1_run_29 rfl (lv_at hl 1 rfl) ?_
      refine xg1_n E hW dX1_run_30 ?_
      refine lv_icmp_ge (tgt := 47) hx hb dX1_run_33 (by decide) (fun c33 => ?_) (fun c33 => ?_)
      · have e : k = n := by omega
        subst e
        refine lv_aload_n hx hb dX1_run_47 rfl (lv_at hl 1 rfl) ?_
        refine xg1_n E hW dX1_run_48 ?_
        exact xiret1 E hW hQ hr hlk dX1_run_51 (⟨hu0, hu0, hP, hm⟩)
      · rw [hu0] at c33
        exact absurd (nI_le (by omega) (by omega)) c33
    | succ w ih =>
      intro k u H locs ls hkw hu0 hP hm hW hl
      refine lv_iload_n hx hb dX1_run_28 rfl (lv_at hl 0 rfl) ?_
      refine lv_aload_n hx hb dX1_run_29 rfl (lv_at hl 1 rfl) ?_
      refine xg1_n E hW dX1_run_30 ?_
      refine lv_icmp_ge (tgt := 47) hx hb dX1_run_33 (by decide) (fun c33 => ?_) (fun c33 => ?_)
      · rw [hu0] at c33
        exact absurd (n_le (by omega) (by omega) c33) (by omega)
      · have hpu : pg_ok u.2 n := by unfold pg_ok; rw [hP.1, hP.2.1, hP.2.2.1, hP.2.2.2]; exact hpg
        refine lv_aload_n hx hb dX1_run_36 rfl (lv_at hl 1 rfl) ?_
        refine lv_iload_n hx hb dX1_run_37 rfl (lv_at hl 0 rfl) ?_
        refine xcv1 (n := 1) (mX1_execute l D d h u (n := n) (k := k) hn (by omega) hpu) E hW (lw_V q248 q250 qs16 q20 q251) ⟨rfl, rfl⟩ (by decide +kernel) ⟨Nat.le_of_ble_eq_true rfl, Nat.le_of_ble_eq_true rfl⟩ rfl hl.1 rfl (Nat.le_of_ble_eq_true rfl) dX1_run_38 (fun v H locs hp hW => ?_)
        obtain ⟨p1, p2, p3⟩ := hp
        refine lv_iinc (v := (nI (k + 1))) (lv' := [(2, .int (nI (k + 1))), (0, .ref _)]) hx hb dX1_run_41 hl (k := 0) rfl (ii1 _) (by decide) rfl (fun ls hl => ?_)
        refine lv_goto (tgt := 28) hx hb dX1_run_44 (by decide) ?_
        refine ih (k + 1) v _ _ ls (by omega) (p1.trans hu0) (hP.tr p2) ?_ hW (lv_sub hl [0, 1] rfl)
        rw [p3, hm, hP.1, hP.2.1, hP.2.2.1, hP.2.2.2]
        rfl
  have loop1 : ∀ (w k : Nat) (u : SX) (H : Heap) (locs : List Loc) (ls : Array Slot), k + w = 16 → u.1 = (sI σ 7 0).1 → (∀ f, f ≠ 8 → u.2 f = σ.2 f) → u.2 8 = clr (σ.2 8) k → XW1 D d h A s H locs u → lv_has ls 3 [(2, .int (nI k)), (0, .ref (h 0))] → W p l e (rm 2 45) s m args below meth c H locs 0 0 Q (F0 m 7 ls []) := by
    intro w
    induction w with
    | zero =>
      intro k u H locs ls hkw h1 h2 h3 hW hl
      refine lv_iload_n hx hb dX1_run_7 rfl (lv_at hl 0 rfl) ?_
      refine lv_bipush (v := (nI 16)) hx hb dX1_run_8 (by decide) ?_
      refine lv_icmp_ge (tgt := 26) hx hb dX1_run_10 (by decide) (fun c10 => ?_) (fun c10 => ?_)
      · have e : k = 16 := by omega
        subst e
        refine lv_iconst (v := 0) hx hb dX1_run_26 (by decide) ?_
        refine lv_istore_n (lv' := [(2, .int (nI 0)), (0, .ref _)]) hx hb dX1_run_27 rfl hl (by decide) rfl (fun ls hl => ?_)
        refine loop2 n 0 u _ _ ls (by omega) (by rw [h1]; exact hln) ⟨h2 1 (by decide), h2 2 (by decide), h2 3 (by decide), h2 4 (by decide)⟩ ?_ hW (lv_sub hl [0, 1] rfl)
        unfold mq
        rw [h2 5 (by decide), h2 6 (by decide), h3, h1]
        rfl
      · exact absurd (nI_le (by omega) (by omega)) c10
    | succ w ih =>
      intro k u H locs ls hkw h1 h2 h3 hW hl
      refine lv_iload_n hx hb dX1_run_7 rfl (lv_at hl 0 rfl) ?_
      refine lv_bipush (v := (nI 16)) hx hb dX1_run_8 (by decide) ?_
      refine lv_icmp_ge (tgt := 26) hx hb dX1_run_10 (by decide) (fun c10 => ?_) (fun c10 => ?_)
      · exact absurd (n_le (by omega) (by omega) c10) (by omega)
      · refine lv_aload_n hx hb dX1_run_13 rfl (lv_at hl 1 rfl) ?_
        refine xg1_wrote E hW dX1_run_14 ?_
        refine lv_iload_n hx hb dX1_run_17 rfl (lv_at hl 0 rfl) ?_
        refine lv_iconst (v := 0) hx hb dX1_run_18 (by decide) ?_
        refine xs1_wrote E hW rfl (by omega) (by decide +kernel : vp_nar .boolean 0 = 0) dX1_run_19 (fun H locs hW => ?_)
        refine lv_iinc (v := (nI (k + 1))) (lv' := [(2, .int (nI (k + 1))), (0, .ref _)]) hx hb dX1_run_20 hl (k := 0) rfl (ii1 _) (by decide) rfl (fun ls hl => ?_)
        refine lv_goto (tgt := 7) hx hb dX1_run_23 (by decide) ?_
        refine ih (k + 1) (sA u 8 k 0) _ _ ls (by omega) h1 (fun f hf => ?_) ?_ hW (lv_sub hl [0, 1] rfl)
        · rw [← h2 f hf]
          unfold sA va_up
          simp only [if_neg hf]
        · show upd (u.2 8) k 0 = upd (clr (σ.2 8) k) k 0
          rw [h3]
  refine lv_aload_n hx hb dX1_run_0 rfl (lv_at hl 0 rfl) ?_
  refine lv_iconst (v := 0) hx hb dX1_run_1 (by decide) ?_
  refine xp1_fed E hW dX1_run_2 (fun H locs hW => ?_)
  refine lv_iconst (v := 0) hx hb dX1_run_5 (by decide) ?_
  refine lv_istore_n (lv' := [(2, .int (nI 0)), (0, .ref _), (1, .int _)]) hx hb dX1_run_6 rfl hl (by decide) rfl (fun ls hl => ?_)
  exact loop1 16 0 (sI σ 7 0) _ _ ls (by omega) rfl (fun _ _ => rfl) rfl hW (lv_sub hl [0, 1] rfl)
def w0X0 (h0 : Nat) : va_W := [(h0, .inr (0, [.int 0, .null, .null, .null, .null, .null, .null, .int 0, .int 0, .null, .null, .null, .null, .null, .null, .null, .null, .null, .int 0, .int 0]))]
/-- the object's cells behind its constructor: all nought -/
def BX0_init (D : va_G) (h0 : Nat) (A : Nat → Prop) (u : (Nat → ClassId) × (Nat → Nat)) (t : State) : Prop := u.2 0 = h0 ∧ va_P D vwCl (wX0 u.1 u.2 (fun _ => 0, fun _ _ => 0)) t.heap ∧ va_K D vwCl (tX0 u.1) t ∧ va_D A (wX0 u.1 u.2 (fun _ => 0, fun _ _ => 0))
set_option maxHeartbeats 4000000 in
theorem mX0_init (l : Launch) (D : va_G) (h0 sz : Nat) : Met l yX0_init (ws_ yX0_init cX0_init 1 none) ({ frames := 1, cells := 15, slots := 268, locals := 12 }) (va_Pc [.ref h0] (fun U => U.heap.size = sz ∧ va_P D vwCl (w0X0 h0) U.heap ∧ va_K D vwCl [] U ∧ va_D (fun _ => True) (w0X0 h0))) (va_Qv (fun _ => True) (BX0_init D h0 (va_A (w0X0 h0) sz)) (va_A (w0X0 h0) sz)) 15 268 (va_A (w0X0 h0) sz) := by
  refine Met.ofW (cc := cX0_init) (maxL := 1) (ret := none) (by decide) rfl ?_
  intro p e s m args below meth c s₁ B hml hv
  obtain ⟨rfl, hsz, hP, hK, hD0⟩ := hv
  have hx := B.exec
  have hb := B.bytes
  have hr := B.returns
  have hts := atoms_spec (ws := ws_ yX0_init cX0_init 1 none) B.pre
  have hts : ∀ w ∈ lw_all, w.before _ s = true := fun w h => hts w (List.mem_cons_of_mem _ h)
  have hown : s.vm.findClass RX0 = some m.cls := findClass_of_methodNamed B.named
  have hlocks := B.notSynchronized
  have hin : meth.name = "<init>" := (name_of_methodNamed B.named B.method).1
  subst hsz
  have hD := hD0.self (sz := s.heap.size)
  generalize hAe : va_A (w0X0 h0) s.heap.size = A at hD ⊢
  have hA : ∀ q : Nat, s.heap.size ≤ q → A q := fun q h => by rw [← hAe]; exact Or.inr h
  have hS : va_S A s.heap s.heap [] := va_S.rf
  have hP : va_P D vwCl [(h0, .inr (0, [.int 0, .null, .null, .null, .null, .null, .null, .int 0, .int 0, .null, .null, .null, .null, .null, .null, .null, .null, .null, .int 0, .int 0]))] s.heap := hP
  have hD : va_D A [(h0, .inr (0, [.int 0, .null, .null, .null, .null, .null, .null, .int 0, .int 0, .null, .null, .null, .null, .null, .null, .null, .null, .null, .int 0, .int 0]))] := hD
  have hl := lv_entry ([.ref h0]) (n := 1) (Nat.le_of_ble_eq_true rfl)
  rw [lg_entry_eq]
  generalize (lg_sl ([.ref h0]) ++ List.replicate (1 - (lg_sl ([.ref h0])).length) Slot.unset).toArray = ls at hl ⊢
  have hl : lv_has ls 1 [(0, .ref h0)] := hl
  refine lv_aload_n hx hb dX0_init_0 rfl (lv_at hl 0 rfl) ?_
  refine W.objInit hx hb hown (hts _ q26) (hts _ q27) (hts _ q28) rfl (by rw [hml]; exact hl.1) rfl dX0_init_1 (Nat.le_of_ble_eq_true rfl) (Nat.le_of_ble_eq_true rfl) ?_
  refine W.eq (g2 := F0 m 4 ls []) rfl ?_
  refine lv_aload_n hx hb dX0_init_4 rfl (lv_at hl 0 rfl) ?_
  refine lv_bipush (v := 20) hx hb dX0_init_5 (by decide) ?_
  refine va_newa (atype := .byte) (ty := .byte) (a0 := (20, .inl (fun _ => 0))) hx hb (hts _ q90) rfl hK hP hD hS hA (fun _ => rfl) (by decide) (by decide) (by decide) (Nat.le_of_ble_eq_true rfl) (Nat.le_of_ble_eq_true rfl) dX0_init_7 (fun q1_ c1_ H hK hP hD hS => ?_)
  refine W.widen (k := 1) (n := 20) (Nat.le_refl _) (Nat.le_refl _) ?_
  have hP : va_P D vwCl [(h0, .inr (0, [.int 0, .null, .null, .null, .null, .null, .null, .int 0, .int 0, .null, .null, .null, .null, .null, .null, .null, .null, .null, .int 0, .int 0])), (q1_, .inl (c1_, 20, .inl (fun _ => 0)))] H := hP
  have hD : va_D A [(h0, .inr (0, [.int 0, .null, .null, .null, .null, .null, .null, .int 0, .int 0, .null, .null, .null, .null, .null, .null, .null, .null, .null, .int 0, .int 0])), (q1_, .inl (c1_, 20, .inl (fun _ => 0)))] := hD
  have hK : va_K D vwCl [(c1_, .byte)] s := hK
  refine va_putF (D := D) (ci := 0) (v := .ref q1_) (ty := .array .byte) (C := RX0) (T := TX0) (N := 20) hx hb hts in_X0 tyX0 tyX0_ok nmX0 hown hK hP hD hS 0 rfl rfl 1 (by decide) (hts _ q30) (fun _ h9 => h9) rfl hin rfl (by decide +kernel) rfl rfl (Nat.le_of_ble_eq_true rfl) dX0_init_9 (fun H locs hP hD hS => ?_)
  have hP : va_P D vwCl [(h0, .inr (0, [.int 0, .ref q1_, .null, .null, .null, .null, .null, .int 0, .int 0, .null, .null, .null, .null, .null, .null, .null, .null, .null, .int 0, .int 0])), (q1_, .inl (c1_, 20, .inl (fun _ => 0)))] H := hP
  have hD : va_D A [(h0, .inr (0, [.int 0, .ref q1_, .null, .null, .null, .null, .null, .int 0, .int 0, .null, .null, .null, .null, .null, .null, .null, .null, .null, .int 0, .int 0])), (q1_, .inl (c1_, 20, .inl (fun _ => 0)))] := hD
  refine lv_aload_n hx hb dX0_init_12 rfl (lv_at hl 0 rfl) ?_
  refine lv_bipush (v := 20) hx hb dX0_init_13 (by decide) ?_
  refine va_newa (atype := .byte) (ty := .byte) (a0 := (20, .inl (fun _ => 0))) hx hb (hts _ q90) rfl hK hP hD hS hA (fun _ => rfl) (by decide) (by decide) (by decide) (Nat.le_of_ble_eq_true rfl) (Nat.le_of_ble_eq_true rfl) dX0_init_15 (fun q2_ c2_ H hK hP hD hS => ?_)
  refine W.widen (k := 2) (n := 40) (Nat.le_refl _) (Nat.le_refl _) ?_
  have hP : va_P D vwCl [(h0, .inr (0, [.int 0, .ref q1_, .null, .null, .null, .null, .null, .int 0, .int 0, .null, .null, .null, .null, .null, .null, .null, .null, .null, .int 0, .int 0])), (q1_, .inl (c1_, 20, .inl (fun _ => 0))), (q2_, .inl (c2_, 20, .inl (fun _ => 0)))] H := hP
  have hD : va_D A [(h0, .inr (0, [.int 0, .ref q1_, .null, .null, .null, .null, .null, .int 0, .int 0, .null, .null, .null, .null, .null, .null, .null, .null, .null, .int 0, .int 0])), (q1_, .inl (c1_, 20, .inl (fun _ => 0))), (q2_, .inl (c2_, 20, .inl (fun _ => 0)))] := hD
  have hK : va_K D vwCl [(c1_, .byte), (c2_, .byte)] s := hK
  refine va_putF (D := D) (ci := 0) (v := .ref q2_) (ty := .array .byte) (C := RX0) (T := TX0) (N := 20) hx hb hts in_X0 tyX0 tyX0_ok nmX0 hown hK hP hD hS 0 rfl rfl 2 (by decide) (hts _ q31) (fun _ h9 => h9) rfl hin rfl (by decide +kernel) rfl rfl (Nat.le_of_ble_eq_true rfl) dX0_init_17 (fun H locs hP hD hS => ?_)
  have hP : va_P D vwCl [(h0, .inr (0, [.int 0, .ref q1_, .ref q2_, .null, .null, .null, .null, .int 0, .int 0, .null, .null, .null, .null, .null, .null, .null, .null, .null, .int 0, .int 0])), (q1_, .inl (c1_, 20, .inl (fun _ => 0))), (q2_, .inl (c2_, 20, .inl (fun _ => 0)))] H := hP
  have hD : va_D A [(h0, .inr (0, [.int 0, .ref q1_, .ref q2_, .null, .null, .null, .null, .int 0, .int 0, .null, .null, .null, .null, .null, .null, .null, .null, .null, .int 0, .int 0])), (q1_, .inl (c1_, 20, .inl (fun _ => 0))), (q2_, .inl (c2_, 20, .inl (fun _ => 0)))] := hD
  refine lv_aload_n hx hb dX0_init_20 rfl (lv_at hl 0 rfl) ?_
  refine lv_bipush (v := 20) hx hb dX0_init_21 (by decide) ?_
  refine va_newa (atype := .int) (ty := .int) (a0 := (20, .inl (fun _ => 0))) hx hb (hts _ q91) rfl hK hP hD hS hA (fun _ => rfl) (by decide) (by decide) (by decide) (Nat.le_of_ble_eq_true rfl) (Nat.le_of_ble_eq_true rfl) dX0_init_23 (fun q3_ c3_ H hK hP hD hS => ?_)
  refine W.widen (k := 3) (n := 60) (Nat.le_refl _) (Nat.le_refl _) ?_
  have hP : va_P D vwCl [(h0, .inr (0, [.int 0, .ref q1_, .ref q2_, .null, .null, .null, .null, .int 0, .int 0, .null, .null, .null, .null, .null, .null, .null, .null, .null, .int 0, .int 0])), (q1_, .inl (c1_, 20, .inl (fun _ => 0))), (q2_, .inl (c2_, 20, .inl (fun _ => 0))), (q3_, .inl (c3_, 20, .inl (fun _ => 0)))] H := hP
  have hD : va_D A [(h0, .inr (0, [.int 0, .ref q1_, .ref q2_, .null, .null, .null, .null, .int 0, .int 0, .null, .null, .null, .null, .null, .null, .null, .null, .null, .int 0, .int 0])), (q1_, .inl (c1_, 20, .inl (fun _ => 0))), (q2_, .inl (c2_, 20, .inl (fun _ => 0))), (q3_, .inl (c3_, 20, .inl (fun _ => 0)))] := hD
  have hK : va_K D vwCl [(c1_, .byte), (c2_, .byte), (c3_, .int)] s := hK
  refine va_putF (D := D) (ci := 0) (v := .ref q3_) (ty := .array .int) (C := RX0) (T := TX0) (N := 20) hx hb hts in_X0 tyX0 tyX0_ok nmX0 hown hK hP hD hS 0 rfl rfl 3 (by decide) (hts _ q32) (fun _ h9 => h9) rfl hin rfl (by decide +kernel) rfl rfl (Nat.le_of_ble_eq_true rfl) dX0_init_25 (fun H locs hP hD hS => ?_)
  have hP : va_P D vwCl [(h0, .inr (0, [.int 0, .ref q1_, .ref q2_, .ref q3_, .null, .null, .null, .int 0, .int 0, .null, .null, .null, .null, .null, .null, .null, .null, .null, .int 0, .int 0])), (q1_, .inl (c1_, 20, .inl (fun _ => 0))), (q2_, .inl (c2_, 20, .inl (fun _ => 0))), (q3_, .inl (c3_, 20, .inl (fun _ => 0)))] H := hP
  have hD : va_D A [(h0, .inr (0, [.int 0, .ref q1_, .ref q2_, .ref q3_, .null, .null, .null, .int 0, .int 0, .null, .null, .null, .null, .null, .null, .null, .null, .null, .int 0, .int 0])), (q1_, .inl (c1_, 20, .inl (fun _ => 0))), (q2_, .inl (c2_, 20, .inl (fun _ => 0))), (q3_, .inl (c3_, 20, .inl (fun _ => 0)))] := hD
  refine lv_aload_n hx hb dX0_init_28 rfl (lv_at hl 0 rfl) ?_
  refine lv_bipush (v := 20) hx hb dX0_init_29 (by decide) ?_
  refine va_newa (atype := .int) (ty := .int) (a0 := (20, .inl (fun _ => 0))) hx hb (hts _ q91) rfl hK hP hD hS hA (fun _ => rfl) (by decide) (by decide) (by decide) (Nat.le_of_ble_eq_true rfl) (Nat.le_of_ble_eq_true rfl) dX0_init_31 (fun q4_ c4_ H hK hP hD hS => ?_)
  refine W.widen (k := 4) (n := 80) (Nat.le_refl _) (Nat.le_refl _) ?_
  have hP : va_P D vwCl [(h0, .inr (0, [.int 0, .ref q1_, .ref q2_, .ref q3_, .null, .null, .null, .int 0, .int 0, .null, .null, .null, .null, .null, .null, .null, .null, .null, .int 0, .int 0])), (q1_, .inl (c1_, 20, .inl (fun _ => 0))), (q2_, .inl (c2_, 20, .inl (fun _ => 0))), (q3_, .inl (c3_, 20, .inl (fun _ => 0))), (q4_, .inl (c4_, 20, .inl (fun _ => 0)))] H := hP
  have hD : va_D A [(h0, .inr (0, [.int 0, .ref q1_, .ref q2_, .ref q3_, .null, .null, .null, .int 0, .int 0, .null, .null, .null, .null, .null, .null, .null, .null, .null, .int 0, .int 0])), (q1_, .inl (c1_, 20, .inl (fun _ => 0))), (q2_, .inl (c2_, 20, .inl (fun _ => 0))), (q3_, .inl (c3_, 20, .inl (fun _ => 0))), (q4_, .inl (c4_, 20, .inl (fun _ => 0)))] := hD
  have hK : va_K D vwCl [(c1_, .byte), (c2_, .byte), (c3_, .int), (c4_, .int)] s := hK
  refine va_putF (D := D) (ci := 0) (v := .ref q4_) (ty := .array .int) (C := RX0) (T := TX0) (N := 20) hx hb hts in_X0 tyX0 tyX0_ok nmX0 hown hK hP hD hS 0 rfl rfl 4 (by decide) (hts _ q33) (fun _ h9 => h9) rfl hin rfl (by decide +kernel) rfl rfl (Nat.le_of_ble_eq_true rfl) dX0_init_33 (fun H locs hP hD hS => ?_)
  have hP : va_P D vwCl [(h0, .inr (0, [.int 0, .ref q1_, .ref q2_, .ref q3_, .ref q4_, .null, .null, .int 0, .int 0, .null, .null, .null, .null, .null, .null, .null, .null, .null, .int 0, .int 0])), (q1_, .inl (c1_, 20, .inl (fun _ => 0))), (q2_, .inl (c2_, 20, .inl (fun _ => 0))), (q3_, .inl (c3_, 20, .inl (fun _ => 0))), (q4_, .inl (c4_, 20, .inl (fun _ => 0)))] H := hP
  have hD : va_D A [(h0, .inr (0, [.int 0, .ref q1_, .ref q2_, .ref q3_, .ref q4_, .null, .null, .int 0, .int 0, .null, .null, .null, .null, .null, .null, .null, .null, .null, .int 0, .int 0])), (q1_, .inl (c1_, 20, .inl (fun _ => 0))), (q2_, .inl (c2_, 20, .inl (fun _ => 0))), (q3_, .inl (c3_, 20, .inl (fun _ => 0))), (q4_, .inl (c4_, 20, .inl (fun _ => 0)))] := hD
  refine lv_aload_n hx hb dX0_init_36 rfl (lv_at hl 0 rfl) ?_
  refine lv_bipush (v := 6) hx hb dX0_init_37 (by decide) ?_
  refine va_newa (atype := .int) (ty := .int) (a0 := (6, .inl (fun _ => 0))) hx hb (hts _ q91) rfl hK hP hD hS hA (fun _ => rfl) (by decide) (by decide) (by decide) (Nat.le_of_ble_eq_true rfl) (Nat.le_of_ble_eq_true rfl) dX0_init_39 (fun q5_ c5_ H hK hP hD hS => ?_)
  refine W.widen (k := 5) (n := 86) (Nat.le_refl _) (Nat.le_refl _) ?_
  have hP : va_P D vwCl [(h0, .inr (0, [.int 0, .ref q1_, .ref q2_, .ref q3_, .ref q4_, .null, .null, .int 0, .int 0, .null, .null, .null, .null, .null, .null, .null, .null, .null, .int 0, .int 0])), (q1_, .inl (c1_, 20, .inl (fun _ => 0))), (q2_, .inl (c2_, 20, .inl (fun _ => 0))), (q3_, .inl (c3_, 20, .inl (fun _ => 0))), (q4_, .inl (c4_, 20, .inl (fun _ => 0))), (q5_, .inl (c5_, 6, .inl (fun _ => 0)))] H := hP
  have hD : va_D A [(h0, .inr (0, [.int 0, .ref q1_, .ref q2_, .ref q3_, .ref q4_, .null, .null, .int 0, .int 0, .null, .null, .null, .null, .null, .null, .null, .null, .null, .int 0, .int 0])), (q1_, .inl (c1_, 20, .inl (fun _ => 0))), (q2_, .inl (c2_, 20, .inl (fun _ => 0))), (q3_, .inl (c3_, 20, .inl (fun _ => 0))), (q4_, .inl (c4_, 20, .inl (fun _ => 0))), (q5_, .inl (c5_, 6, .inl (fun _ => 0)))] := hD
  have hK : va_K D vwCl [(c1_, .byte), (c2_, .byte), (c3_, .int), (c4_, .int), (c5_, .int)] s := hK
  refine va_putF (D := D) (ci := 0) (v := .ref q5_) (ty := .array .int) (C := RX0) (T := TX0) (N := 20) hx hb hts in_X0 tyX0 tyX0_ok nmX0 hown hK hP hD hS 0 rfl rfl 5 (by decide) (hts _ q34) (fun _ h9 => h9) rfl hin rfl (by decide +kernel) rfl rfl (Nat.le_of_ble_eq_true rfl) dX0_init_41 (fun H locs hP hD hS => ?_)
  have hP : va_P D vwCl [(h0, .inr (0, [.int 0, .ref q1_, .ref q2_, .ref q3_, .ref q4_, .ref q5_, .null, .int 0, .int 0, .null, .null, .null, .null, .null, .null, .null, .null, .null, .int 0, .int 0])), (q1_, .inl (c1_, 20, .inl (fun _ => 0))), (q2_, .inl (c2_, 20, .inl (fun _ => 0))), (q3_, .inl (c3_, 20, .inl (fun _ => 0))), (q4_, .inl (c4_, 20, .inl (fun _ => 0))), (q5_, .inl (c5_, 6, .inl (fun _ => 0)))] H := hP
  have hD : va_D A [(h0, .inr (0, [.int 0, .ref q1_, .ref q2_, .ref q3_, .ref q4_, .ref q5_, .null, .int 0, .int 0, .null, .null, .null, .null, .null, .null, .null, .null, .null, .int 0, .int 0])), (q1_, .inl (c1_, 20, .inl (fun _ => 0))), (q2_, .inl (c2_, 20, .inl (fun _ => 0))), (q3_, .inl (c3_, 20, .inl (fun _ => 0))), (q4_, .inl (c4_, 20, .inl (fun _ => 0))), (q5_, .inl (c5_, 6, .inl (fun _ => 0)))] := hD
  refine lv_aload_n hx hb dX0_init_44 rfl (lv_at hl 0 rfl) ?_
  refine lv_bipush (v := 16) hx hb dX0_init_45 (by decide) ?_
  refine va_newa (atype := .int) (ty := .int) (a0 := (16, .inl (fun _ => 0))) hx hb (hts _ q91) rfl hK hP hD hS hA (fun _ => rfl) (by decide) (by decide) (by decide) (Nat.le_of_ble_eq_true rfl) (Nat.le_of_ble_eq_true rfl) dX0_init_47 (fun q6_ c6_ H hK hP hD hS => ?_)
  refine W.widen (k := 6) (n := 102) (Nat.le_refl _) (Nat.le_refl _) ?_
  have hP : va_P D vwCl [(h0, .inr (0, [.int 0, .ref q1_, .ref q2_, .ref q3_, .ref q4_, .ref q5_, .null, .int 0, .int 0, .null, .null, .null, .null, .null, .null, .null, .null, .null, .int 0, .int 0])), (q1_, .inl (c1_, 20, .inl (fun _ => 0))), (q2_, .inl (c2_, 20, .inl (fun _ => 0))), (q3_, .inl (c3_, 20, .inl (fun _ => 0))), (q4_, .inl (c4_, 20, .inl (fun _ => 0))), (q5_, .inl (c5_, 6, .inl (fun _ => 0))), (q6_, .inl (c6_, 16, .inl (fun _ => 0)))] H := hP
  have hD : va_D A [(h0, .inr (0, [.int 0, .ref q1_, .ref q2_, .ref q3_, .ref q4_, .ref q5_, .null, .int 0, .int 0, .null, .null, .null, .null, .null, .null, .null, .null, .null, .int 0, .int 0])), (q1_, .inl (c1_, 20, .inl (fun _ => 0))), (q2_, .inl (c2_, 20, .inl (fun _ => 0))), (q3_, .inl (c3_, 20, .inl (fun _ => 0))), (q4_, .inl (c4_, 20, .inl (fun _ => 0))), (q5_, .inl (c5_, 6, .inl (fun _ => 0))), (q6_, .inl (c6_, 16, .inl (fun _ => 0)))] := hD
  have hK : va_K D vwCl [(c1_, .byte), (c2_, .byte), (c3_, .int), (c4_, .int), (c5_, .int), (c6_, .int)] s := hK
  refine va_putF (D := D) (ci := 0) (v := .ref q6_) (ty := .array .int) (C := RX0) (T := TX0) (N := 20) hx hb hts in_X0 tyX0 tyX0_ok nmX0 hown hK hP hD hS 0 rfl rfl 6 (by decide) (hts _ q35) (fun _ h9 => h9) rfl hin rfl (by decide +kernel) rfl rfl (Nat.le_of_ble_eq_true rfl) dX0_init_49 (fun H locs hP hD hS => ?_)
  have hP : va_P D vwCl [(h0, .inr (0, [.int 0, .ref q1_, .ref q2_, .ref q3_, .ref q4_, .ref q5_, .ref q6_, .int 0, .int 0, .null, .null, .null, .null, .null, .null, .null, .null, .null, .int 0, .int 0])), (q1_, .inl (c1_, 20, .inl (fun _ => 0))), (q2_, .inl (c2_, 20, .inl (fun _ => 0))), (q3_, .inl (c3_, 20, .inl (fun _ => 0))), (q4_, .inl (c4_, 20, .inl (fun _ => 0))), (q5_, .inl (c5_, 6, .inl (fun _ => 0))), (q6_, .inl (c6_, 16, .inl (fun _ => 0)))] H := hP
  have hD : va_D A [(h0, .inr (0, [.int 0, .ref q1_, .ref q2_, .ref q3_, .ref q4_, .ref q5_, .ref q6_, .int 0, .int 0, .null, .null, .null, .null, .null, .null, .null, .null, .null, .int 0, .int 0])), (q1_, .inl (c1_, 20, .inl (fun _ => 0))), (q2_, .inl (c2_, 20, .inl (fun _ => 0))), (q3_, .inl (c3_, 20, .inl (fun _ => 0))), (q4_, .inl (c4_, 20, .inl (fun _ => 0))), (q5_, .inl (c5_, 6, .inl (fun _ => 0))), (q6_, .inl (c6_, 16, .inl (fun _ => 0)))] := hD
  refine lv_aload_n hx hb dX0_init_52 rfl (lv_at hl 0 rfl) ?_
  refine lv_bipush (v := 20) hx hb dX0_init_53 (by decide) ?_
  refine va_newa (atype := .byte) (ty := .byte) (a0 := (20, .inl (fun _ => 0))) hx hb (hts _ q90) rfl hK hP hD hS hA (fun _ => rfl) (by decide) (by decide) (by decide) (Nat.le_of_ble_eq_true rfl) (Nat.le_of_ble_eq_true rfl) dX0_init_55 (fun q7_ c7_ H hK hP hD hS => ?_)
  refine W.widen (k := 7) (n := 122) (Nat.le_refl _) (Nat.le_refl _) ?_
  have hP : va_P D vwCl [(h0, .inr (0, [.int 0, .ref q1_, .ref q2_, .ref q3_, .ref q4_, .ref q5_, .ref q6_, .int 0, .int 0, .null, .null, .null, .null, .null, .null, .null, .null, .null, .int 0, .int 0])), (q1_, .inl (c1_, 20, .inl (fun _ => 0))), (q2_, .inl (c2_, 20, .inl (fun _ => 0))), (q3_, .inl (c3_, 20, .inl (fun _ => 0))), (q4_, .inl (c4_, 20, .inl (fun _ => 0))), (q5_, .inl (c5_, 6, .inl (fun _ => 0))), (q6_, .inl (c6_, 16, .inl (fun _ => 0))), (q7_, .inl (c7_, 20, .inl (fun _ => 0)))] H := hP
  have hD : va_D A [(h0, .inr (0, [.int 0, .ref q1_, .ref q2_, .ref q3_, .ref q4_, .ref q5_, .ref q6_, .int 0, .int 0, .null, .null, .null, .null, .null, .null, .null, .null, .null, .int 0, .int 0])), (q1_, .inl (c1_, 20, .inl (fun _ => 0))), (q2_, .inl (c2_, 20, .inl (fun _ => 0))), (q3_, .inl (c3_, 20, .inl (fun _ => 0))), (q4_, .inl (c4_, 20, .inl (fun _ => 0))), (q5_, .inl (c5_, 6, .inl (fun _ => 0))), (q6_, .inl (c6_, 16, .inl (fun _ => 0))), (q7_, .inl (c7_, 20, .inl (fun _ => 0)))] := hD
  have hK : va_K D vwCl [(c1_, .byte), (c2_, .byte), (c3_, .int), (c4_, .int), (c5_, .int), (c6_, .int), (c7_, .byte)] s := hK
  refine va_putF (D := D) (ci := 0) (v := .ref q7_) (ty := .array .byte) (C := RX0) (T := TX0) (N := 20) hx hb hts in_X0 tyX0 tyX0_ok nmX0 hown hK hP hD hS 0 rfl rfl 9 (by decide) (hts _ q38) (fun _ h9 => h9) rfl hin rfl (by decide +kernel) rfl rfl (Nat.le_of_ble_eq_true rfl) dX0_init_57 (fun H locs hP hD hS => ?_)
  have hP : va_P D vwCl [(h0, .inr (0, [.int 0, .ref q1_, .ref q2_, .ref q3_, .ref q4_, .ref q5_, .ref q6_, .int 0, .int 0, .ref q7_, .null, .null, .null, .null, .null, .null, .null, .null, .int 0, .int 0])), (q1_, .inl (c1_, 20, .inl (fun _ => 0))), (q2_, .inl (c2_, 20, .inl (fun _ => 0))), (q3_, .inl (c3_, 20, .inl (fun _ => 0))), (q4_, .inl (c4_, 20, .inl (fun _ => 0))), (q5_, .inl (c5_, 6, .inl (fun _ => 0))), (q6_, .inl (c6_, 16, .inl (fun _ => 0))), (q7_, .inl (c7_, 20, .inl (fun _ => 0)))] H := hP
  have hD : va_D A [(h0, .inr (0, [.int 0, .ref q1_, .ref q2_, .ref q3_, .ref q4_, .ref q5_, .ref q6_, .int 0, .int 0, .ref q7_, .null, .null, .null, .null, .null, .null, .null, .null, .int 0, .int 0])), (q1_, .inl (c1_, 20, .inl (fun _ => 0))), (q2_, .inl (c2_, 20, .inl (fun _ => 0))), (q3_, .inl (c3_, 20, .inl (fun _ => 0))), (q4_, .inl (c4_, 20, .inl (fun _ => 0))), (q5_, .inl (c5_, 6, .inl (fun _ => 0))), (q6_, .inl (c6_, 16, .inl (fun _ => 0))), (q7_, .inl (c7_, 20, .inl (fun _ => 0)))] := hD
  refine lv_aload_n hx hb dX0_init_60 rfl (lv_at hl 0 rfl) ?_
  refine lv_bipush (v := 20) hx hb dX0_init_61 (by decide) ?_
  refine va_newa (atype := .byte) (ty := .byte) (a0 := (20, .inl (fun _ => 0))) hx hb (hts _ q90) rfl hK hP hD hS hA (fun _ => rfl) (by decide) (by decide) (by decide) (Nat.le_of_ble_eq_true rfl) (Nat.le_of_ble_eq_true rfl) dX0_init_63 (fun q8_ c8_ H hK hP hD hS => ?_)
  refine W.widen (k := 8) (n := 142) (Nat.le_refl _) (Nat.le_refl _) ?_
  have hP : va_P D vwCl [(h0, .inr (0, [.int 0, .ref q1_, .ref q2_, .ref q3_, .ref q4_, .ref q5_, .ref q6_, .int 0, .int 0, .ref q7_, .null, .null, .null, .null, .null, .null, .null, .null, .int 0, .int 0])), (q1_, .inl (c1_, 20, .inl (fun _ => 0))), (q2_, .inl (c2_, 20, .inl (fun _ => 0))), (q3_, .inl (c3_, 20, .inl (fun _ => 0))), (q4_, .inl (c4_, 20, .inl (fun _ => 0))), (q5_, .inl (c5_, 6, .inl (fun _ => 0))), (q6_, .inl (c6_, 16, .inl (fun _ => 0))), (q7_, .inl (c7_, 20, .inl (fun _ => 0))), (q8_, .inl (c8_, 20, .inl (fun _ => 0)))] H := hP
  have hD : va_D A [(h0, .inr (0, [.int 0, .ref q1_, .ref q2_, .ref q3_, .ref q4_, .ref q5_, .ref q6_, .int 0, .int 0, .ref q7_, .null, .null, .null, .null, .null, .null, .null, .null, .int 0, .int 0])), (q1_, .inl (c1_, 20, .inl (fun _ => 0))), (q2_, .inl (c2_, 20, .inl (fun _ => 0))), (q3_, .inl (c3_, 20, .inl (fun _ => 0))), (q4_, .inl (c4_, 20, .inl (fun _ => 0))), (q5_, .inl (c5_, 6, .inl (fun _ => 0))), (q6_, .inl (c6_, 16, .inl (fun _ => 0))), (q7_, .inl (c7_, 20, .inl (fun _ => 0))), (q8_, .inl (c8_, 20, .inl (fun _ => 0)))] := hD
  have hK : va_K D vwCl [(c1_, .byte), (c2_, .byte), (c3_, .int), (c4_, .int), (c5_, .int), (c6_, .int), (c7_, .byte), (c8_, .byte)] s := hK
  refine va_putF (D := D) (ci := 0) (v := .ref q8_) (ty := .array .byte) (C := RX0) (T := TX0) (N := 20) hx hb hts in_X0 tyX0 tyX0_ok nmX0 hown hK hP hD hS 0 rfl rfl 10 (by decide) (hts _ q39) (fun _ h9 => h9) rfl hin rfl (by decide +kernel) rfl rfl (Nat.le_of_ble_eq_true rfl) dX0_init_65 (fun H locs hP hD hS => ?_)
  have hP : va_P D vwCl [(h0, .inr (0, [.int 0, .ref q1_, .ref q2_, .ref q3_, .ref q4_, .ref q5_, .ref q6_, .int 0, .int 0, .ref q7_, .ref q8_, .null, .null, .null, .null, .null, .null, .null, .int 0, .int 0])), (q1_, .inl (c1_, 20, .inl (fun _ => 0))), (q2_, .inl (c2_, 20, .inl (fun _ => 0))), (q3_, .inl (c3_, 20, .inl (fun _ => 0))), (q4_, .inl (c4_, 20, .inl (fun _ => 0))), (q5_, .inl (c5_, 6, .inl (fun _ => 0))), (q6_, .inl (c6_, 16, .inl (fun _ => 0))), (q7_, .inl (c7_, 20, .inl (fun _ => 0))), (q8_, .inl (c8_, 20, .inl (fun _ => 0)))] H := hP
  have hD : va_D A [(h0, .inr (0, [.int 0, .ref q1_, .ref q2_, .ref q3_, .ref q4_, .ref q5_, .ref q6_, .int 0, .int 0, .ref q7_, .ref q8_, .null, .null, .null, .null, .null, .null, .null, .int 0, .int 0])), (q1_, .inl (c1_, 20, .inl (fun _ => 0))), (q2_, .inl (c2_, 20, .inl (fun _ => 0))), (q3_, .inl (c3_, 20, .inl (fun _ => 0))), (q4_, .inl (c4_, 20, .inl (fun _ => 0))), (q5_, .inl (c5_, 6, .inl (fun _ => 0))), (q6_, .inl (c6_, 16, .inl (fun _ => 0))), (q7_, .inl (c7_, 20, .inl (fun _ => 0))), (q8_, .inl (c8_, 20, .inl (fun _ => 0)))] := hD
  refine lv_aload_n hx hb dX0_init_68 rfl (lv_at hl 0 rfl) ?_
  refine lv_bipush (v := 20) hx hb dX0_init_69 (by decide) ?_
  refine va_newa (atype := .byte) (ty := .byte) (a0 := (20, .inl (fun _ => 0))) hx hb (hts _ q90) rfl hK hP hD hS hA (fun _ => rfl) (by decide) (by decide) (by decide) (Nat.le_of_ble_eq_true rfl) (Nat.le_of_ble_eq_true rfl) dX0_init_71 (fun q9_ c9_ H hK hP hD hS => ?_)
  refine W.widen (k := 9) (n := 162) (Nat.le_refl _) (Nat.le_refl _) ?_
  have hP : va_P D vwCl [(h0, .inr (0, [.int 0, .ref q1_, .ref q2_, .ref q3_, .ref q4_, .ref q5_, .ref q6_, .int 0, .int 0, .ref q7_, .ref q8_, .null, .null, .null, .null, .null, .null, .null, .int 0, .int 0])), (q1_, .inl (c1_, 20, .inl (fun _ => 0))), (q2_, .inl (c2_, 20, .inl (fun _ => 0))), (q3_, .inl (c3_, 20, .inl (fun _ => 0))), (q4_, .inl (c4_, 20, .inl (fun _ => 0))), (q5_, .inl (c5_, 6, .inl (fun _ => 0))), (q6_, .inl (c6_, 16, .inl (fun _ => 0))), (q7_, .inl (c7_, 20, .inl (fun _ => 0))), (q8_, .inl (c8_, 20, .inl (fun _ => 0))), (q9_, .inl (c9_, 20, .inl (fun _ => 0)))] H := hP
  have hD : va_D A [(h0, .inr (0, [.int 0, .ref q1_, .ref q2_, .ref q3_, .ref q4_, .ref q5_, .ref q6_, .int 0, .int 0, .ref q7_, .ref q8_, .null, .null, .null, .null, .null, .null, .null, .int 0, .int 0])), (q1_, .inl (c1_, 20, .inl (fun _ => 0))), (q2_, .inl (c2_, 20, .inl (fun _ => 0))), (q3_, .inl (c3_, 20, .inl (fun _ => 0))), (q4_, .inl (c4_, 20, .inl (fun _ => 0))), (q5_, .inl (c5_, 6, .inl (fun _ => 0))), (q6_, .inl (c6_, 16, .inl (fun _ => 0))), (q7_, .inl (c7_, 20, .inl (fun _ => 0))), (q8_, .inl (c8_, 20, .inl (fun _ => 0))), (q9_, .inl (c9_, 20, .inl (fun _ => 0)))] := hD
  have hK : va_K D vwCl [(c1_, .byte), (c2_, .byte), (c3_, .int), (c4_, .int), (c5_, .int), (c6_, .int), (c7_, .byte), (c8_, .byte), (c9_, .byte)] s := hK
  refine va_putF (D := D) (ci := 0) (v := .ref q9_) (ty := .array .byte) (C := RX0) (T := TX0) (N := 20) hx hb hts in_X0 tyX0 tyX0_ok nmX0 hown hK hP hD hS 0 rfl rfl 11 (by decide) (hts _ q40) (fun _ h9 => h9) rfl hin rfl (by decide +kernel) rfl rfl (Nat.le_of_ble_eq_true rfl) dX0_init_73 (fun H locs hP hD hS => ?_)
  have hP : va_P D vwCl [(h0, .inr (0, [.int 0, .ref q1_, .ref q2_, .ref q3_, .ref q4_, .ref q5_, .ref q6_, .int 0, .int 0, .ref q7_, .ref q8_, .ref q9_, .null, .null, .null, .null, .null, .null, .int 0, .int 0])), (q1_, .inl (c1_, 20, .inl (fun _ => 0))), (q2_, .inl (c2_, 20, .inl (fun _ => 0))), (q3_, .inl (c3_, 20, .inl (fun _ => 0))), (q4_, .inl (c4_, 20, .inl (fun _ => 0))), (q5_, .inl (c5_, 6, .inl (fun _ => 0))), (q6_, .inl (c6_, 16, .inl (fun _ => 0))), (q7_, .inl (c7_, 20, .inl (fun _ => 0))), (q8_, .inl (c8_, 20, .inl (fun _ => 0))), (q9_, .inl (c9_, 20, .inl (fun _ => 0)))] H := hP
  have hD : va_D A [(h0, .inr (0, [.int 0, .ref q1_, .ref q2_, .ref q3_, .ref q4_, .ref q5_, .ref q6_, .int 0, .int 0, .ref q7_, .ref q8_, .ref q9_, .null, .null, .null, .null, .null, .null, .int 0, .int 0])), (q1_, .inl (c1_, 20, .inl (fun _ => 0))), (q2_, .inl (c2_, 20, .inl (fun _ => 0))), (q3_, .inl (c3_, 20, .inl (fun _ => 0))), (q4_, .inl (c4_, 20, .inl (fun _ => 0))), (q5_, .inl (c5_, 6, .inl (fun _ => 0))), (q6_, .inl (c6_, 16, .inl (fun _ => 0))), (q7_, .inl (c7_, 20, .inl (fun _ => 0))), (q8_, .inl (c8_, 20, .inl (fun _ => 0))), (q9_, .inl (c9_, 20, .inl (fun _ => 0)))] := hD
  refine lv_aload_n hx hb dX0_init_76 rfl (lv_at hl 0 rfl) ?_
  refine lv_bipush (v := 6) hx hb dX0_init_77 (by decide) ?_
  refine va_newa (atype := .byte) (ty := .byte) (a0 := (6, .inl (fun _ => 0))) hx hb (hts _ q90) rfl hK hP hD hS hA (fun _ => rfl) (by decide) (by decide) (by decide) (Nat.le_of_ble_eq_true rfl) (Nat.le_of_ble_eq_true rfl) dX0_init_79 (fun q10_ c10_ H hK hP hD hS => ?_)
  refine W.widen (k := 10) (n := 168) (Nat.le_refl _) (Nat.le_refl _) ?_
  have hP : va_P D vwCl [(h0, .inr (0, [.int 0, .ref q1_, .ref q2_, .ref q3_, .ref q4_, .ref q5_, .ref q6_, .int 0, .int 0, .ref q7_, .ref q8_, .ref q9_, .null, .null, .null, .null, .null, .null, .int 0, .int 0])), (q1_, .inl (c1_, 20, .inl (fun _ => 0))), (q2_, .inl (c2_, 20, .inl (fun _ => 0))), (q3_, .inl (c3_, 20, .inl (fun _ => 0))), (q4_, .inl (c4_, 20, .inl (fun _ => 0))), (q5_, .inl (c5_, 6, .inl (fun _ => 0))), (q6_, .inl (c6_, 16, .inl (fun _ => 0))), (q7_, .inl (c7_, 20, .inl (fun _ => 0))), (q8_, .inl (c8_, 20, .inl (fun _ => 0))), (q9_, .inl (c9_, 20, .inl (fun _ => 0))), (q10_, .inl (c10_, 6, .inl (fun _ => 0)))] H := hP
  have hD : va_D A [(h0, .inr (0, [.int 0, .ref q1_, .ref q2_, .ref q3_, .ref q4_, .ref q5_, .ref q6_, .int 0, .int 0, .ref q7_, .ref q8_, .ref q9_, .null, .null, .null, .null, .null, .null, .int 0, .int 0])), (q1_, .inl (c1_, 20, .inl (fun _ => 0))), (q2_, .inl (c2_, 20, .inl (fun _ => 0))), (q3_, .inl (c3_, 20, .inl (fun _ => 0))), (q4_, .inl (c4_, 20, .inl (fun _ => 0))), (q5_, .inl (c5_, 6, .inl (fun _ => 0))), (q6_, .inl (c6_, 16, .inl (fun _ => 0))), (q7_, .inl (c7_, 20, .inl (fun _ => 0))), (q8_, .inl (c8_, 20, .inl (fun _ => 0))), (q9_, .inl (c9_, 20, .inl (fun _ => 0))), (q10_, .inl (c10_, 6, .inl (fun _ => 0)))] := hD
  have hK : va_K D vwCl [(c1_, .byte), (c2_, .byte), (c3_, .int), (c4_, .int), (c5_, .int), (c6_, .int), (c7_, .byte), (c8_, .byte), (c9_, .byte), (c10_, .byte)] s := hK
  refine va_putF (D := D) (ci := 0) (v := .ref q10_) (ty := .array .byte) (C := RX0) (T := TX0) (N := 20) hx hb hts in_X0 tyX0 tyX0_ok nmX0 hown hK hP hD hS 0 rfl rfl 12 (by decide) (hts _ q41) (fun _ h9 => h9) rfl hin rfl (by decide +kernel) rfl rfl (Nat.le_of_ble_eq_true rfl) dX0_init_81 (fun H locs hP hD hS => ?_)
  have hP : va_P D vwCl [(h0, .inr (0, [.int 0, .ref q1_, .ref q2_, .ref q3_, .ref q4_, .ref q5_, .ref q6_, .int 0, .int 0, .ref q7_, .ref q8_, .ref q9_, .ref q10_, .null, .null, .null, .null, .null, .int 0, .int 0])), (q1_, .inl (c1_, 20, .inl (fun _ => 0))), (q2_, .inl (c2_, 20, .inl (fun _ => 0))), (q3_, .inl (c3_, 20, .inl (fun _ => 0))), (q4_, .inl (c4_, 20, .inl (fun _ => 0))), (q5_, .inl (c5_, 6, .inl (fun _ => 0))), (q6_, .inl (c6_, 16, .inl (fun _ => 0))), (q7_, .inl (c7_, 20, .inl (fun _ => 0))), (q8_, .inl (c8_, 20, .inl (fun _ => 0))), (q9_, .inl (c9_, 20, .inl (fun _ => 0))), (q10_, .inl (c10_, 6, .inl (fun _ => 0)))] H := hP
  have hD : va_D A [(h0, .inr (0, [.int 0, .ref q1_, .ref q2_, .ref q3_, .ref q4_, .ref q5_, .ref q6_, .int 0, .int 0, .ref q7_, .ref q8_, .ref q9_, .ref q10_, .null, .null, .null, .null, .null, .int 0, .int 0])), (q1_, .inl (c1_, 20, .inl (fun _ => 0))), (q2_, .inl (c2_, 20, .inl (fun _ => 0))), (q3_, .inl (c3_, 20, .inl (fun _ => 0))), (q4_, .inl (c4_, 20, .inl (fun _ => 0))), (q5_, .inl (c5_, 6, .inl (fun _ => 0))), (q6_, .inl (c6_, 16, .inl (fun _ => 0))), (q7_, .inl (c7_, 20, .inl (fun _ => 0))), (q8_, .inl (c8_, 20, .inl (fun _ => 0))), (q9_, .inl (c9_, 20, .inl (fun _ => 0))), (q10_, .inl (c10_, 6, .inl (fun _ => 0)))] := hD
  refine lv_aload_n hx hb dX0_init_84 rfl (lv_at hl 0 rfl) ?_
  refine lv_bipush (v := 20) hx hb dX0_init_85 (by decide) ?_
  refine va_newa (atype := .byte) (ty := .byte) (a0 := (20, .inl (fun _ => 0))) hx hb (hts _ q90) rfl hK hP hD hS hA (fun _ => rfl) (by decide) (by decide) (by decide) (Nat.le_of_ble_eq_true rfl) (Nat.le_of_ble_eq_true rfl) dX0_init_87 (fun q11_ c11_ H hK hP hD hS => ?_)
  refine W.widen (k := 11) (n := 188) (Nat.le_refl _) (Nat.le_refl _) ?_
  have hP : va_P D vwCl [(h0, .inr (0, [.int 0, .ref q1_, .ref q2_, .ref q3_, .ref q4_, .ref q5_, .ref q6_, .int 0, .int 0, .ref q7_, .ref q8_, .ref q9_, .ref q10_, .null, .null, .null, .null, .null, .int 0, .int 0])), (q1_, .inl (c1_, 20, .inl (fun _ => 0))), (q2_, .inl (c2_, 20, .inl (fun _ => 0))), (q3_, .inl (c3_, 20, .inl (fun _ => 0))), (q4_, .inl (c4_, 20, .inl (fun _ => 0))), (q5_, .inl (c5_, 6, .inl (fun _ => 0))), (q6_, .inl (c6_, 16, .inl (fun _ => 0))), (q7_, .inl (c7_, 20, .inl (fun _ => 0))), (q8_, .inl (c8_, 20, .inl (fun _ => 0))), (q9_, .inl (c9_, 20, .inl (fun _ => 0))), (q10_, .inl (c10_, 6, .inl (fun _ => 0))), (q11_, .inl (c11_, 20, .inl (fun _ => 0)))] H := hP
  have hD : va_D A [(h0, .inr (0, [.int 0, .ref q1_, .ref q2_, .ref q3_, .ref q4_, .ref q5_, .ref q6_, .int 0, .int 0, .ref q7_, .ref q8_, .ref q9_, .ref q10_, .null, .null, .null, .null, .null, .int 0, .int 0])), (q1_, .inl (c1_, 20, .inl (fun _ => 0))), (q2_, .inl (c2_, 20, .inl (fun _ => 0))), (q3_, .inl (c3_, 20, .inl (fun _ => 0))), (q4_, .inl (c4_, 20, .inl (fun _ => 0))), (q5_, .inl (c5_, 6, .inl (fun _ => 0))), (q6_, .inl (c6_, 16, .inl (fun _ => 0))), (q7_, .inl (c7_, 20, .inl (fun _ => 0))), (q8_, .inl (c8_, 20, .inl (fun _ => 0))), (q9_, .inl (c9_, 20, .inl (fun _ => 0))), (q10_, .inl (c10_, 6, .inl (fun _ => 0))), (q11_, .inl (c11_, 20, .inl (fun _ => 0)))] := hD
  have hK : va_K D vwCl [(c1_, .byte), (c2_, .byte), (c3_, .int), (c4_, .int), (c5_, .int), (c6_, .int), (c7_, .byte), (c8_, .byte), (c9_, .byte), (c10_, .byte), (c11_, .byte)] s := hK
  refine va_putF (D := D) (ci := 0) (v := .ref q11_) (ty := .array .byte) (C := RX0) (T := TX0) (N := 20) hx hb hts in_X0 tyX0 tyX0_ok nmX0 hown hK hP hD hS 0 rfl rfl 13 (by decide) (hts _ q42) (fun _ h9 => h9) rfl hin rfl (by decide +kernel) rfl rfl (Nat.le_of_ble_eq_true rfl) dX0_init_89 (fun H locs hP hD hS => ?_)
  have hP : va_P D vwCl [(h0, .inr (0, [.int 0, .ref q1_, .ref q2_, .ref q3_, .ref q4_, .ref q5_, .ref q6_, .int 0, .int 0, .ref q7_, .ref q8_, .ref q9_, .ref q10_, .ref q11_, .null, .null, .null, .null, .int 0, .int 0])), (q1_, .inl (c1_, 20, .inl (fun _ => 0))), (q2_, .inl (c2_, 20, .inl (fun _ => 0))), (q3_, .inl (c3_, 20, .inl (fun _ => 0))), (q4_, .inl (c4_, 20, .inl (fun _ => 0))), (q5_, .inl (c5_, 6, .inl (fun _ => 0))), (q6_, .inl (c6_, 16, .inl (fun _ => 0))), (q7_, .inl (c7_, 20, .inl (fun _ => 0))), (q8_, .inl (c8_, 20, .inl (fun _ => 0))), (q9_, .inl (c9_, 20, .inl (fun _ => 0))), (q10_, .inl (c10_, 6, .inl (fun _ => 0))), (q11_, .inl (c11_, 20, .inl (fun _ => 0)))] H := hP
  have hD : va_D A [(h0, .inr (0, [.int 0, .ref q1_, .ref q2_, .ref q3_, .ref q4_, .ref q5_, .ref q6_, .int 0, .int 0, .ref q7_, .ref q8_, .ref q9_, .ref q10_, .ref q11_, .null, .null, .null, .null, .int 0, .int 0])), (q1_, .inl (c1_, 20, .inl (fun _ => 0))), (q2_, .inl (c2_, 20, .inl (fun _ => 0))), (q3_, .inl (c3_, 20, .inl (fun _ => 0))), (q4_, .inl (c4_, 20, .inl (fun _ => 0))), (q5_, .inl (c5_, 6, .inl (fun _ => 0))), (q6_, .inl (c6_, 16, .inl (fun _ => 0))), (q7_, .inl (c7_, 20, .inl (fun _ => 0))), (q8_, .inl (c8_, 20, .inl (fun _ => 0))), (q9_, .inl (c9_, 20, .inl (fun _ => 0))), (q10_, .inl (c10_, 6, .inl (fun _ => 0))), (q11_, .inl (c11_, 20, .inl (fun _ => 0)))] := hD
  refine lv_aload_n hx hb dX0_init_92 rfl (lv_at hl 0 rfl) ?_
  refine lv_bipush (v := 20) hx hb dX0_init_93 (by decide) ?_
  refine va_newa (atype := .byte) (ty := .byte) (a0 := (20, .inl (fun _ => 0))) hx hb (hts _ q90) rfl hK hP hD hS hA (fun _ => rfl) (by decide) (by decide) (by decide) (Nat.le_of_ble_eq_true rfl) (Nat.le_of_ble_eq_true rfl) dX0_init_95 (fun q12_ c12_ H hK hP hD hS => ?_)
  refine W.widen (k := 12) (n := 208) (Nat.le_refl _) (Nat.le_refl _) ?_
  have hP : va_P D vwCl [(h0, .inr (0, [.int 0, .ref q1_, .ref q2_, .ref q3_, .ref q4_, .ref q5_, .ref q6_, .int 0, .int 0, .ref q7_, .ref q8_, .ref q9_, .ref q10_, .ref q11_, .null, .null, .null, .null, .int 0, .int 0])), (q1_, .inl (c1_, 20, .inl (fun _ => 0))), (q2_, .inl (c2_, 20, .inl (fun _ => 0))), (q3_, .inl (c3_, 20, .inl (fun _ => 0))), (q4_, .inl (c4_, 20, .inl (fun _ => 0))), (q5_, .inl (c5_, 6, .inl (fun _ => 0))), (q6_, .inl (c6_, 16, .inl (fun _ => 0))), (q7_, .inl (c7_, 20, .inl (fun _ => 0))), (q8_, .inl (c8_, 20, .inl (fun _ => 0))), (q9_, .inl (c9_, 20, .inl (fun _ => 0))), (q10_, .inl (c10_, 6, .inl (fun _ => 0))), (q11_, .inl (c11_, 20, .inl (fun _ => 0))), (q12_, .inl (c12_, 20, .inl (fun _ => 0)))] H := hP
  have hD : va_D A [(h0, .inr (0, [.int 0, .ref q1_, .ref q2_, .ref q3_, .ref q4_, .ref q5_, .ref q6_, .int 0, .int 0, .ref q7_, .ref q8_, .ref q9_, .ref q10_, .ref q11_, .null, .null, .null, .null, .int 0, .int 0])), (q1_, .inl (c1_, 20, .inl (fun _ => 0))), (q2_, .inl (c2_, 20, .inl (fun _ => 0))), (q3_, .inl (c3_, 20, .inl (fun _ => 0))), (q4_, .inl (c4_, 20, .inl (fun _ => 0))), (q5_, .inl (c5_, 6, .inl (fun _ => 0))), (q6_, .inl (c6_, 16, .inl (fun _ => 0))), (q7_, .inl (c7_, 20, .inl (fun _ => 0))), (q8_, .inl (c8_, 20, .inl (fun _ => 0))), (q9_, .inl (c9_, 20, .inl (fun _ => 0))), (q10_, .inl (c10_, 6, .inl (fun _ => 0))), (q11_, .inl (c11_, 20, .inl (fun _ => 0))), (q12_, .inl (c12_, 20, .inl (fun _ => 0)))] := hD
  have hK : va_K D vwCl [(c1_, .byte), (c2_, .byte), (c3_, .int), (c4_, .int), (c5_, .int), (c6_, .int), (c7_, .byte), (c8_, .byte), (c9_, .byte), (c10_, .byte), (c11_, .byte), (c12_, .byte)] s := hK
  refine va_putF (D := D) (ci := 0) (v := .ref q12_) (ty := .array .byte) (C := RX0) (T := TX0) (N := 20) hx hb hts in_X0 tyX0 tyX0_ok nmX0 hown hK hP hD hS 0 rfl rfl 14 (by decide) (hts _ q43) (fun _ h9 => h9) rfl hin rfl (by decide +kernel) rfl rfl (Nat.le_of_ble_eq_true rfl) dX0_init_97 (fun H locs hP hD hS => ?_)
  have hP : va_P D vwCl [(h0, .inr (0, [.int 0, .ref q1_, .ref q2_, .ref q3_, .ref q4_, .ref q5_, .ref q6_, .int 0, .int 0, .ref q7_, .ref q8_, .ref q9_, .ref q10_, .ref q11_, .ref q12_, .null, .null, .null, .int 0, .int 0])), (q1_, .inl (c1_, 20, .inl (fun _ => 0))), (q2_, .inl (c2_, 20, .inl (fun _ => 0))), (q3_, .inl (c3_, 20, .inl (fun _ => 0))), (q4_, .inl (c4_, 20, .inl (fun _ => 0))), (q5_, .inl (c5_, 6, .inl (fun _ => 0))), (q6_, .inl (c6_, 16, .inl (fun _ => 0))), (q7_, .inl (c7_, 20, .inl (fun _ => 0))), (q8_, .inl (c8_, 20, .inl (fun _ => 0))), (q9_, .inl (c9_, 20, .inl (fun _ => 0))), (q10_, .inl (c10_, 6, .inl (fun _ => 0))), (q11_, .inl (c11_, 20, .inl (fun _ => 0))), (q12_, .inl (c12_, 20, .inl (fun _ => 0)))] H := hP
  have hD : va_D A [(h0, .inr (0, [.int 0, .ref q1_, .ref q2_, .ref q3_, .ref q4_, .ref q5_, .ref q6_, .int 0, .int 0, .ref q7_, .ref q8_, .ref q9_, .ref q10_, .ref q11_, .ref q12_, .null, .null, .null, .int 0, .int 0])), (q1_, .inl (c1_, 20, .inl (fun _ => 0))), (q2_, .inl (c2_, 20, .inl (fun _ => 0))), (q3_, .inl (c3_, 20, .inl (fun _ => 0))), (q4_, .inl (c4_, 20, .inl (fun _ => 0))), (q5_, .inl (c5_, 6, .inl (fun _ => 0))), (q6_, .inl (c6_, 16, .inl (fun _ => 0))), (q7_, .inl (c7_, 20, .inl (fun _ => 0))), (q8_, .inl (c8_, 20, .inl (fun _ => 0))), (q9_, .inl (c9_, 20, .inl (fun _ => 0))), (q10_, .inl (c10_, 6, .inl (fun _ => 0))), (q11_, .inl (c11_, 20, .inl (fun _ => 0))), (q12_, .inl (c12_, 20, .inl (fun _ => 0)))] := hD
  refine lv_aload_n hx hb dX0_init_100 rfl (lv_at hl 0 rfl) ?_
  refine lv_bipush (v := 20) hx hb dX0_init_101 (by decide) ?_
  refine va_newa (atype := .int) (ty := .int) (a0 := (20, .inl (fun _ => 0))) hx hb (hts _ q91) rfl hK hP hD hS hA (fun _ => rfl) (by decide) (by decide) (by decide) (Nat.le_of_ble_eq_true rfl) (Nat.le_of_ble_eq_true rfl) dX0_init_103 (fun q13_ c13_ H hK hP hD hS => ?_)
  refine W.widen (k := 13) (n := 228) (Nat.le_refl _) (Nat.le_refl _) ?_
  have hP : va_P D vwCl [(h0, .inr (0, [.int 0, .ref q1_, .ref q2_, .ref q3_, .ref q4_, .ref q5_, .ref q6_, .int 0, .int 0, .ref q7_, .ref q8_, .ref q9_, .ref q10_, .ref q11_, .ref q12_, .null, .null, .null, .int 0, .int 0])), (q1_, .inl (c1_, 20, .inl (fun _ => 0))), (q2_, .inl (c2_, 20, .inl (fun _ => 0))), (q3_, .inl (c3_, 20, .inl (fun _ => 0))), (q4_, .inl (c4_, 20, .inl (fun _ => 0))), (q5_, .inl (c5_, 6, .inl (fun _ => 0))), (q6_, .inl (c6_, 16, .inl (fun _ => 0))), (q7_, .inl (c7_, 20, .inl (fun _ => 0))), (q8_, .inl (c8_, 20, .inl (fun _ => 0))), (q9_, .inl (c9_, 20, .inl (fun _ => 0))), (q10_, .inl (c10_, 6, .inl (fun _ => 0))), (q11_, .inl (c11_, 20, .inl (fun _ => 0))), (q12_, .inl (c12_, 20, .inl (fun _ => 0))), (q13_, .inl (c13_, 20, .inl (fun _ => 0)))] H := hP
  have hD : va_D A [(h0, .inr (0, [.int 0, .ref q1_, .ref q2_, .ref q3_, .ref q4_, .ref q5_, .ref q6_, .int 0, .int 0, .ref q7_, .ref q8_, .ref q9_, .ref q10_, .ref q11_, .ref q12_, .null, .null, .null, .int 0, .int 0])), (q1_, .inl (c1_, 20, .inl (fun _ => 0))), (q2_, .inl (c2_, 20, .inl (fun _ => 0))), (q3_, .inl (c3_, 20, .inl (fun _ => 0))), (q4_, .inl (c4_, 20, .inl (fun _ => 0))), (q5_, .inl (c5_, 6, .inl (fun _ => 0))), (q6_, .inl (c6_, 16, .inl (fun _ => 0))), (q7_, .inl (c7_, 20, .inl (fun _ => 0))), (q8_, .inl (c8_, 20, .inl (fun _ => 0))), (q9_, .inl (c9_, 20, .inl (fun _ => 0))), (q10_, .inl (c10_, 6, .inl (fun _ => 0))), (q11_, .inl (c11_, 20, .inl (fun _ => 0))), (q12_, .inl (c12_, 20, .inl (fun _ => 0))), (q13_, .inl (c13_, 20, .inl (fun _ => 0)))] := hD
  have hK : va_K D vwCl [(c1_, .byte), (c2_, .byte), (c3_, .int), (c4_, .int), (c5_, .int), (c6_, .int), (c7_, .byte), (c8_, .byte), (c9_, .byte), (c10_, .byte), (c11_, .byte), (c12_, .byte), (c13_, .int)] s := hK
  refine va_putF (D := D) (ci := 0) (v := .ref q13_) (ty := .array .int) (C := RX0) (T := TX0) (N := 20) hx hb hts in_X0 tyX0 tyX0_ok nmX0 hown hK hP hD hS 0 rfl rfl 15 (by decide) (hts _ q44) (fun _ h9 => h9) rfl hin rfl (by decide +kernel) rfl rfl (Nat.le_of_ble_eq_true rfl) dX0_init_105 (fun H locs hP hD hS => ?_)
  have hP : va_P D vwCl [(h0, .inr (0, [.int 0, .ref q1_, .ref q2_, .ref q3_, .ref q4_, .ref q5_, .ref q6_, .int 0, .int 0, .ref q7_, .ref q8_, .ref q9_, .ref q10_, .ref q11_, .ref q12_, .ref q13_, .null, .null, .int 0, .int 0])), (q1_, .inl (c1_, 20, .inl (fun _ => 0))), (q2_, .inl (c2_, 20, .inl (fun _ => 0))), (q3_, .inl (c3_, 20, .inl (fun _ => 0))), (q4_, .inl (c4_, 20, .inl (fun _ => 0))), (q5_, .inl (c5_, 6, .inl (fun _ => 0))), (q6_, .inl (c6_, 16, .inl (fun _ => 0))), (q7_, .inl (c7_, 20, .inl (fun _ => 0))), (q8_, .inl (c8_, 20, .inl (fun _ => 0))), (q9_, .inl (c9_, 20, .inl (fun _ => 0))), (q10_, .inl (c10_, 6, .inl (fun _ => 0))), (q11_, .inl (c11_, 20, .inl (fun _ => 0))), (q12_, .inl (c12_, 20, .inl (fun _ => 0))), (q13_, .inl (c13_, 20, .inl (fun _ => 0)))] H := hP
  have hD : va_D A [(h0, .inr (0, [.int 0, .ref q1_, .ref q2_, .ref q3_, .ref q4_, .ref q5_, .ref q6_, .int 0, .int 0, .ref q7_, .ref q8_, .ref q9_, .ref q10_, .ref q11_, .ref q12_, .ref q13_, .null, .null, .int 0, .int 0])), (q1_, .inl (c1_, 20, .inl (fun _ => 0))), (q2_, .inl (c2_, 20, .inl (fun _ => 0))), (q3_, .inl (c3_, 20, .inl (fun _ => 0))), (q4_, .inl (c4_, 20, .inl (fun _ => 0))), (q5_, .inl (c5_, 6, .inl (fun _ => 0))), (q6_, .inl (c6_, 16, .inl (fun _ => 0))), (q7_, .inl (c7_, 20, .inl (fun _ => 0))), (q8_, .inl (c8_, 20, .inl (fun _ => 0))), (q9_, .inl (c9_, 20, .inl (fun _ => 0))), (q10_, .inl (c10_, 6, .inl (fun _ => 0))), (q11_, .inl (c11_, 20, .inl (fun _ => 0))), (q12_, .inl (c12_, 20, .inl (fun _ => 0))), (q13_, .inl (c13_, 20, .inl (fun _ => 0)))] := hD
  refine lv_aload_n hx hb dX0_init_108 rfl (lv_at hl 0 rfl) ?_
  refine lv_bipush (v := 20) hx hb dX0_init_109 (by decide) ?_
  refine va_newa (atype := .byte) (ty := .byte) (a0 := (20, .inl (fun _ => 0))) hx hb (hts _ q90) rfl hK hP hD hS hA (fun _ => rfl) (by decide) (by decide) (by decide) (Nat.le_of_ble_eq_true rfl) (Nat.le_of_ble_eq_true rfl) dX0_init_111 (fun q14_ c14_ H hK hP hD hS => ?_)
  refine W.widen (k := 14) (n := 248) (Nat.le_refl _) (Nat.le_refl _) ?_
  have hP : va_P D vwCl [(h0, .inr (0, [.int 0, .ref q1_, .ref q2_, .ref q3_, .ref q4_, .ref q5_, .ref q6_, .int 0, .int 0, .ref q7_, .ref q8_, .ref q9_, .ref q10_, .ref q11_, .ref q12_, .ref q13_, .null, .null, .int 0, .int 0])), (q1_, .inl (c1_, 20, .inl (fun _ => 0))), (q2_, .inl (c2_, 20, .inl (fun _ => 0))), (q3_, .inl (c3_, 20, .inl (fun _ => 0))), (q4_, .inl (c4_, 20, .inl (fun _ => 0))), (q5_, .inl (c5_, 6, .inl (fun _ => 0))), (q6_, .inl (c6_, 16, .inl (fun _ => 0))), (q7_, .inl (c7_, 20, .inl (fun _ => 0))), (q8_, .inl (c8_, 20, .inl (fun _ => 0))), (q9_, .inl (c9_, 20, .inl (fun _ => 0))), (q10_, .inl (c10_, 6, .inl (fun _ => 0))), (q11_, .inl (c11_, 20, .inl (fun _ => 0))), (q12_, .inl (c12_, 20, .inl (fun _ => 0))), (q13_, .inl (c13_, 20, .inl (fun _ => 0))), (q14_, .inl (c14_, 20, .inl (fun _ => 0)))] H := hP
  have hD : va_D A [(h0, .inr (0, [.int 0, .ref q1_, .ref q2_, .ref q3_, .ref q4_, .ref q5_, .ref q6_, .int 0, .int 0, .ref q7_, .ref q8_, .ref q9_, .ref q10_, .ref q11_, .ref q12_, .ref q13_, .null, .null, .int 0, .int 0])), (q1_, .inl (c1_, 20, .inl (fun _ => 0))), (q2_, .inl (c2_, 20, .inl (fun _ => 0))), (q3_, .inl (c3_, 20, .inl (fun _ => 0))), (q4_, .inl (c4_, 20, .inl (fun _ => 0))), (q5_, .inl (c5_, 6, .inl (fun _ => 0))), (q6_, .inl (c6_, 16, .inl (fun _ => 0))), (q7_, .inl (c7_, 20, .inl (fun _ => 0))), (q8_, .inl (c8_, 20, .inl (fun _ => 0))), (q9_, .inl (c9_, 20, .inl (fun _ => 0))), (q10_, .inl (c10_, 6, .inl (fun _ => 0))), (q11_, .inl (c11_, 20, .inl (fun _ => 0))), (q12_, .inl (c12_, 20, .inl (fun _ => 0))), (q13_, .inl (c13_, 20, .inl (fun _ => 0))), (q14_, .inl (c14_, 20, .inl (fun _ => 0)))] := hD
  have hK : va_K D vwCl [(c1_, .byte), (c2_, .byte), (c3_, .int), (c4_, .int), (c5_, .int), (c6_, .int), (c7_, .byte), (c8_, .byte), (c9_, .byte), (c10_, .byte), (c11_, .byte), (c12_, .byte), (c13_, .int), (c14_, .byte)] s := hK
  refine va_putF (D := D) (ci := 0) (v := .ref q14_) (ty := .array .byte) (C := RX0) (T := TX0) (N := 20) hx hb hts in_X0 tyX0 tyX0_ok nmX0 hown hK hP hD hS 0 rfl rfl 16 (by decide) (hts _ q45) (fun _ h9 => h9) rfl hin rfl (by decide +kernel) rfl rfl (Nat.le_of_ble_eq_true rfl) dX0_init_113 (fun H locs hP hD hS => ?_)
  have hP : va_P D vwCl [(h0, .inr (0, [.int 0, .ref q1_, .ref q2_, .ref q3_, .ref q4_, .ref q5_, .ref q6_, .int 0, .int 0, .ref q7_, .ref q8_, .ref q9_, .ref q10_, .ref q11_, .ref q12_, .ref q13_, .ref q14_, .null, .int 0, .int 0])), (q1_, .inl (c1_, 20, .inl (fun _ => 0))), (q2_, .inl (c2_, 20, .inl (fun _ => 0))), (q3_, .inl (c3_, 20, .inl (fun _ => 0))), (q4_, .inl (c4_, 20, .inl (fun _ => 0))), (q5_, .inl (c5_, 6, .inl (fun _ => 0))), (q6_, .inl (c6_, 16, .inl (fun _ => 0))), (q7_, .inl (c7_, 20, .inl (fun _ => 0))), (q8_, .inl (c8_, 20, .inl (fun _ => 0))), (q9_, .inl (c9_, 20, .inl (fun _ => 0))), (q10_, .inl (c10_, 6, .inl (fun _ => 0))), (q11_, .inl (c11_, 20, .inl (fun _ => 0))), (q12_, .inl (c12_, 20, .inl (fun _ => 0))), (q13_, .inl (c13_, 20, .inl (fun _ => 0))), (q14_, .inl (c14_, 20, .inl (fun _ => 0)))] H := hP
  have hD : va_D A [(h0, .inr (0, [.int 0, .ref q1_, .ref q2_, .ref q3_, .ref q4_, .ref q5_, .ref q6_, .int 0, .int 0, .ref q7_, .ref q8_, .ref q9_, .ref q10_, .ref q11_, .ref q12_, .ref q13_, .ref q14_, .null, .int 0, .int 0])), (q1_, .inl (c1_, 20, .inl (fun _ => 0))), (q2_, .inl (c2_, 20, .inl (fun _ => 0))), (q3_, .inl (c3_, 20, .inl (fun _ => 0))), (q4_, .inl (c4_, 20, .inl (fun _ => 0))), (q5_, .inl (c5_, 6, .inl (fun _ => 0))), (q6_, .inl (c6_, 16, .inl (fun _ => 0))), (q7_, .inl (c7_, 20, .inl (fun _ => 0))), (q8_, .inl (c8_, 20, .inl (fun _ => 0))), (q9_, .inl (c9_, 20, .inl (fun _ => 0))), (q10_, .inl (c10_, 6, .inl (fun _ => 0))), (q11_, .inl (c11_, 20, .inl (fun _ => 0))), (q12_, .inl (c12_, 20, .inl (fun _ => 0))), (q13_, .inl (c13_, 20, .inl (fun _ => 0))), (q14_, .inl (c14_, 20, .inl (fun _ => 0)))] := hD
  refine lv_aload_n hx hb dX0_init_116 rfl (lv_at hl 0 rfl) ?_
  refine lv_bipush (v := 20) hx hb dX0_init_117 (by decide) ?_
  refine va_newa (atype := .byte) (ty := .byte) (a0 := (20, .inl (fun _ => 0))) hx hb (hts _ q90) rfl hK hP hD hS hA (fun _ => rfl) (by decide) (by decide) (by decide) (Nat.le_of_ble_eq_true rfl) (Nat.le_of_ble_eq_true rfl) dX0_init_119 (fun q15_ c15_ H hK hP hD hS => ?_)
  refine W.widen (k := 15) (n := 268) (Nat.le_refl _) (Nat.le_refl _) ?_
  have hP : va_P D vwCl [(h0, .inr (0, [.int 0, .ref q1_, .ref q2_, .ref q3_, .ref q4_, .ref q5_, .ref q6_, .int 0, .int 0, .ref q7_, .ref q8_, .ref q9_, .ref q10_, .ref q11_, .ref q12_, .ref q13_, .ref q14_, .null, .int 0, .int 0])), (q1_, .inl (c1_, 20, .inl (fun _ => 0))), (q2_, .inl (c2_, 20, .inl (fun _ => 0))), (q3_, .inl (c3_, 20, .inl (fun _ => 0))), (q4_, .inl (c4_, 20, .inl (fun _ => 0))), (q5_, .inl (c5_, 6, .inl (fun _ => 0))), (q6_, .inl (c6_, 16, .inl (fun _ => 0))), (q7_, .inl (c7_, 20, .inl (fun _ => 0))), (q8_, .inl (c8_, 20, .inl (fun _ => 0))), (q9_, .inl (c9_, 20, .inl (fun _ => 0))), (q10_, .inl (c10_, 6, .inl (fun _ => 0))), (q11_, .inl (c11_, 20, .inl (fun _ => 0))), (q12_, .inl (c12_, 20, .inl (fun _ => 0))), (q13_, .inl (c13_, 20, .inl (fun _ => 0))), (q14_, .inl (c14_, 20, .inl (fun _ => 0))), (q15_, .inl (c15_, 20, .inl (fun _ => 0)))] H := hP
  have hD : va_D A [(h0, .inr (0, [.int 0, .ref q1_, .ref q2_, .ref q3_, .ref q4_, .ref q5_, .ref q6_, .int 0, .int 0, .ref q7_, .ref q8_, .ref q9_, .ref q10_, .ref q11_, .ref q12_, .ref q13_, .ref q14_, .null, .int 0, .int 0])), (q1_, .inl (c1_, 20, .inl (fun _ => 0))), (q2_, .inl (c2_, 20, .inl (fun _ => 0))), (q3_, .inl (c3_, 20, .inl (fun _ => 0))), (q4_, .inl (c4_, 20, .inl (fun _ => 0))), (q5_, .inl (c5_, 6, .inl (fun _ => 0))), (q6_, .inl (c6_, 16, .inl (fun _ => 0))), (q7_, .inl (c7_, 20, .inl (fun _ => 0))), (q8_, .inl (c8_, 20, .inl (fun _ => 0))), (q9_, .inl (c9_, 20, .inl (fun _ => 0))), (q10_, .inl (c10_, 6, .inl (fun _ => 0))), (q11_, .inl (c11_, 20, .inl (fun _ => 0))), (q12_, .inl (c12_, 20, .inl (fun _ => 0))), (q13_, .inl (c13_, 20, .inl (fun _ => 0))), (q14_, .inl (c14_, 20, .inl (fun _ => 0))), (q15_, .inl (c15_, 20, .inl (fun _ => 0)))] := hD
  have hK : va_K D vwCl [(c1_, .byte), (c2_, .byte), (c3_, .int), (c4_, .int), (c5_, .int), (c6_, .int), (c7_, .byte), (c8_, .byte), (c9_, .byte), (c10_, .byte), (c11_, .byte), (c12_, .byte), (c13_, .int), (c14_, .byte), (c15_, .byte)] s := hK
  refine va_putF (D := D) (ci := 0) (v := .ref q15_) (ty := .array .byte) (C := RX0) (T := TX0) (N := 20) hx hb hts in_X0 tyX0 tyX0_ok nmX0 hown hK hP hD hS 0 rfl rfl 17 (by decide) (hts _ q46) (fun _ h9 => h9) rfl hin rfl (by decide +kernel) rfl rfl (Nat.le_of_ble_eq_true rfl) dX0_init_121 (fun H locs hP hD hS => ?_)
  have hP : va_P D vwCl [(h0, .inr (0, [.int 0, .ref q1_, .ref q2_, .ref q3_, .ref q4_, .ref q5_, .ref q6_, .int 0, .int 0, .ref q7_, .ref q8_, .ref q9_, .ref q10_, .ref q11_, .ref q12_, .ref q13_, .ref q14_, .ref q15_, .int 0, .int 0])), (q1_, .inl (c1_, 20, .inl (fun _ => 0))), (q2_, .inl (c2_, 20, .inl (fun _ => 0))), (q3_, .inl (c3_, 20, .inl (fun _ => 0))), (q4_, .inl (c4_, 20, .inl (fun _ => 0))), (q5_, .inl (c5_, 6, .inl (fun _ => 0))), (q6_, .inl (c6_, 16, .inl (fun _ => 0))), (q7_, .inl (c7_, 20, .inl (fun _ => 0))), (q8_, .inl (c8_, 20, .inl (fun _ => 0))), (q9_, .inl (c9_, 20, .inl (fun _ => 0))), (q10_, .inl (c10_, 6, .inl (fun _ => 0))), (q11_, .inl (c11_, 20, .inl (fun _ => 0))), (q12_, .inl (c12_, 20, .inl (fun _ => 0))), (q13_, .inl (c13_, 20, .inl (fun _ => 0))), (q14_, .inl (c14_, 20, .inl (fun _ => 0))), (q15_, .inl (c15_, 20, .inl (fun _ => 0)))] H := hP
  have hD : va_D A [(h0, .inr (0, [.int 0, .ref q1_, .ref q2_, .ref q3_, .ref q4_, .ref q5_, .ref q6_, .int 0, .int 0, .ref q7_, .ref q8_, .ref q9_, .ref q10_, .ref q11_, .ref q12_, .ref q13_, .ref q14_, .ref q15_, .int 0, .int 0])), (q1_, .inl (c1_, 20, .inl (fun _ => 0))), (q2_, .inl (c2_, 20, .inl (fun _ => 0))), (q3_, .inl (c3_, 20, .inl (fun _ => 0))), (q4_, .inl (c4_, 20, .inl (fun _ => 0))), (q5_, .inl (c5_, 6, .inl (fun _ => 0))), (q6_, .inl (c6_, 16, .inl (fun _ => 0))), (q7_, .inl (c7_, 20, .inl (fun _ => 0))), (q8_, .inl (c8_, 20, .inl (fun _ => 0))), (q9_, .inl (c9_, 20, .inl (fun _ => 0))), (q10_, .inl (c10_, 6, .inl (fun _ => 0))), (q11_, .inl (c11_, 20, .inl (fun _ => 0))), (q12_, .inl (c12_, 20, .inl (fun _ => 0))), (q13_, .inl (c13_, 20, .inl (fun _ => 0))), (q14_, .inl (c14_, 20, .inl (fun _ => 0))), (q15_, .inl (c15_, 20, .inl (fun _ => 0)))] := hD
  exact W.vret hx hb hr (fun t ht hW => ⟨⟨(fun k => ([c1_, c1_, c2_, c3_, c4_, c5_, c6_, c1_, c1_, c7_, c8_, c9_, c10_, c11_, c12_, c13_, c14_, c15_, c1_, c1_] : List ClassId).getD k c1_, fun k => ([h0, q1_, q2_, q3_, q4_, q5_, q6_, 0, 0, q7_, q8_, q9_, q10_, q11_, q12_, q13_, q14_, q15_, 0, 0] : List Nat).getD k 0), rfl, trivial, rfl, by rw [ht]; exact hP, va_K.moved hW.alike hK, hD⟩, hS.F ht⟩) hS.2.2 dX0_init_124
def w0X1 (h0 : Nat) : va_W := [(h0, .inr (1, [.int 0, .null, .null, .null, .null, .null, .null, .int 0, .null]))]
/-- the object's cells behind its constructor: all nought -/
def BX1_init (D : va_G) (h0 : Nat) (A : Nat → Prop) (u : (Nat → ClassId) × (Nat → Nat)) (t : State) : Prop := u.2 0 = h0 ∧ va_P D vwCl (wX1 u.1 u.2 (fun _ => 0, fun _ _ => 0)) t.heap ∧ va_K D vwCl (tX1 u.1) t ∧ va_D A (wX1 u.1 u.2 (fun _ => 0, fun _ _ => 0))
set_option maxHeartbeats 4000000 in
theorem mX1_init (l : Launch) (D : va_G) (h0 sz : Nat) : Met l yX1_init (ws_ yX1_init cX1_init 1 none) ({ frames := 1, cells := 7, slots := 118, locals := 12 }) (va_Pc [.ref h0] (fun U => U.heap.size = sz ∧ va_P D vwCl (w0X1 h0) U.heap ∧ va_K D vwCl [] U ∧ va_D (fun _ => True) (w0X1 h0))) (va_Qv (fun _ => True) (BX1_init D h0 (va_A (w0X1 h0) sz)) (va_A (w0X1 h0) sz)) 7 118 (va_A (w0X1 h0) sz) := by
  refine Met.ofW (cc := cX1_init) (maxL := 1) (ret := none) (by decide) rfl ?_
  intro p e s m args below meth c s₁ B hml hv
  obtain ⟨rfl, hsz, hP, hK, hD0⟩ := hv
  have hx := B.exec
  have hb := B.bytes
  have hr := B.returns
  have hts := atoms_spec (ws := ws_ yX1_init cX1_init 1 none) B.pre
  have hts : ∀ w ∈ lw_all, w.before _ s = true := fun w h => hts w (List.mem_cons_of_mem _ h)
  have hown : s.vm.findClass RX1 = some m.cls := findClass_of_methodNamed B.named
  have hlocks := B.notSynchronized
  have hin : meth.name = "<init>" := (name_of_methodNamed B.named B.method).1
  subst hsz
  have hD := hD0.self (sz := s.heap.size)
  generalize hAe : va_A (w0X1 h0) s.heap.size = A at hD ⊢
  have hA : ∀ q : Nat, s.heap.size ≤ q → A q := fun q h => by rw [← hAe]; exact Or.inr h
  have hS : va_S A s.heap s.heap [] := va_S.rf
  have hP : va_P D vwCl [(h0, .inr (1, [.int 0, .null, .null, .null, .null, .null, .null, .int 0, .null]))] s.heap := hP
  have hD : va_D A [(h0, .inr (1, [.int 0, .null, .null, .null, .null, .null, .null, .int 0, .null]))] := hD
  have hl := lv_entry ([.ref h0]) (n := 1) (Nat.le_of_ble_eq_true rfl)
  rw [lg_entry_eq]
  generalize (lg_sl ([.ref h0]) ++ List.replicate (1 - (lg_sl ([.ref h0])).length) Slot.unset).toArray = ls at hl ⊢
  have hl : lv_has ls 1 [(0, .ref h0)] := hl
  refine lv_aload_n hx hb dX1_init_0 rfl (lv_at hl 0 rfl) ?_
  refine W.objInit hx hb hown (hts _ q198) (hts _ q27) (hts _ q28) rfl (by rw [hml]; exact hl.1) rfl dX1_init_1 (Nat.le_of_ble_eq_true rfl) (Nat.le_of_ble_eq_true rfl) ?_
  refine W.eq (g2 := F0 m 4 ls []) rfl ?_
  refine lv_aload_n hx hb dX1_init_4 rfl (lv_at hl 0 rfl) ?_
  refine lv_iconst (v := 0) hx hb dX1_init_5 (by decide) ?_
  refine va_put (D := D) (ci := 1) (v := .int 0) (ty := .int) (C := RX1) (T := TX1) (N := 9) hx hb hts in_X1 tyX1 tyX1_ok nmX1 hown hK hP hD hS 0 rfl rfl 0 (by decide) (hts _ q199) (fun _ h9 => h9) rfl (by decide +kernel) rfl rfl (Nat.le_of_ble_eq_true rfl) dX1_init_6 (fun H locs hP hD hS => ?_)
  have hP : va_P D vwCl [(h0, .inr (1, [.int 0, .null, .null, .null, .null, .null, .null, .int 0, .null]))] H := hP
  have hD : va_D A [(h0, .inr (1, [.int 0, .null, .null, .null, .null, .null, .null, .int 0, .null]))] := hD
  refine lv_aload_n hx hb dX1_init_9 rfl (lv_at hl 0 rfl) ?_
  refine lv_bipush (v := 20) hx hb dX1_init_10 (by decide) ?_
  refine va_newa (atype := .int) (ty := .int) (a0 := (20, .inl (fun _ => 0))) hx hb (hts _ q91) rfl hK hP hD hS hA (fun _ => rfl) (by decide) (by decide) (by decide) (Nat.le_of_ble_eq_true rfl) (Nat.le_of_ble_eq_true rfl) dX1_init_12 (fun q1_ c1_ H hK hP hD hS => ?_)
  refine W.widen (k := 1) (n := 20) (Nat.le_refl _) (Nat.le_refl _) ?_
  have hP : va_P D vwCl [(h0, .inr (1, [.int 0, .null, .null, .null, .null, .null, .null, .int 0, .null])), (q1_, .inl (c1_, 20, .inl (fun _ => 0)))] H := hP
  have hD : va_D A [(h0, .inr (1, [.int 0, .null, .null, .null, .null, .null, .null, .int 0, .null])), (q1_, .inl (c1_, 20, .inl (fun _ => 0)))] := hD
  have hK : va_K D vwCl [(c1_, .int)] s := hK
  refine va_put (D := D) (ci := 1) (v := .ref q1_) (ty := .array .int) (C := RX1) (T := TX1) (N := 9) hx hb hts in_X1 tyX1 tyX1_ok nmX1 hown hK hP hD hS 0 rfl rfl 1 (by decide) (hts _ q200) (fun _ h9 => h9) rfl (by decide +kernel) rfl rfl (Nat.le_of_ble_eq_true rfl) dX1_init_14 (fun H locs hP hD hS => ?_)
  have hP : va_P D vwCl [(h0, .inr (1, [.int 0, .ref q1_, .null, .null, .null, .null, .null, .int 0, .null])), (q1_, .inl (c1_, 20, .inl (fun _ => 0)))] H := hP
  have hD : va_D A [(h0, .inr (1, [.int 0, .ref q1_, .null, .null, .null, .null, .null, .int 0, .null])), (q1_, .inl (c1_, 20, .inl (fun _ => 0)))] := hD
  refine lv_aload_n hx hb dX1_init_17 rfl (lv_at hl 0 rfl) ?_
  refine lv_bipush (v := 20) hx hb dX1_init_18 (by decide) ?_
  refine va_newa (atype := .int) (ty := .int) (a0 := (20, .inl (fun _ => 0))) hx hb (hts _ q91) rfl hK hP hD hS hA (fun _ => rfl) (by decide) (by decide) (by decide) (Nat.le_of_ble_eq_true rfl) (Nat.le_of_ble_eq_true rfl) dX1_init_20 (fun q2_ c2_ H hK hP hD hS => ?_)
  refine W.widen (k := 2) (n := 40) (Nat.le_refl _) (Nat.le_refl _) ?_
  have hP : va_P D vwCl [(h0, .inr (1, [.int 0, .ref q1_, .null, .null, .null, .null, .null, .int 0, .null])), (q1_, .inl (c1_, 20, .inl (fun _ => 0))), (q2_, .inl (c2_, 20, .inl (fun _ => 0)))] H := hP
  have hD : va_D A [(h0, .inr (1, [.int 0, .ref q1_, .null, .null, .null, .null, .null, .int 0, .null])), (q1_, .inl (c1_, 20, .inl (fun _ => 0))), (q2_, .inl (c2_, 20, .inl (fun _ => 0)))] := hD
  have hK : va_K D vwCl [(c1_, .int), (c2_, .int)] s := hK
  refine va_put (D := D) (ci := 1) (v := .ref q2_) (ty := .array .int) (C := RX1) (T := TX1) (N := 9) hx hb hts in_X1 tyX1 tyX1_ok nmX1 hown hK hP hD hS 0 rfl rfl 2 (by decide) (hts _ q201) (fun _ h9 => h9) rfl (by decide +kernel) rfl rfl (Nat.le_of_ble_eq_true rfl) dX1_init_22 (fun H locs hP hD hS => ?_)
  have hP : va_P D vwCl [(h0, .inr (1, [.int 0, .ref q1_, .ref q2_, .null, .null, .null, .null, .int 0, .null])), (q1_, .inl (c1_, 20, .inl (fun _ => 0))), (q2_, .inl (c2_, 20, .inl (fun _ => 0)))] H := hP
  have hD : va_D A [(h0, .inr (1, [.int 0, .ref q1_, .ref q2_, .null, .null, .null, .null, .int 0, .null])), (q1_, .inl (c1_, 20, .inl (fun _ => 0))), (q2_, .inl (c2_, 20, .inl (fun _ => 0)))] := hD
  refine lv_aload_n hx hb dX1_init_25 rfl (lv_at hl 0 rfl) ?_
  refine lv_bipush (v := 20) hx hb dX1_init_26 (by decide) ?_
  refine va_newa (atype := .int) (ty := .int) (a0 := (20, .inl (fun _ => 0))) hx hb (hts _ q91) rfl hK hP hD hS hA (fun _ => rfl) (by decide) (by decide) (by decide) (Nat.le_of_ble_eq_true rfl) (Nat.le_of_ble_eq_true rfl) dX1_init_28 (fun q3_ c3_ H hK hP hD hS => ?_)
  refine W.widen (k := 3) (n := 60) (Nat.le_refl _) (Nat.le_refl _) ?_
  have hP : va_P D vwCl [(h0, .inr (1, [.int 0, .ref q1_, .ref q2_, .null, .null, .null, .null, .int 0, .null])), (q1_, .inl (c1_, 20, .inl (fun _ => 0))), (q2_, .inl (c2_, 20, .inl (fun _ => 0))), (q3_, .inl (c3_, 20, .inl (fun _ => 0)))] H := hP
  have hD : va_D A [(h0, .inr (1, [.int 0, .ref q1_, .ref q2_, .null, .null, .null, .null, .int 0, .null])), (q1_, .inl (c1_, 20, .inl (fun _ => 0))), (q2_, .inl (c2_, 20, .inl (fun _ => 0))), (q3_, .inl (c3_, 20, .inl (fun _ => 0)))] := hD
  have hK : va_K D vwCl [(c1_, .int), (c2_, .int), (c3_, .int)] s := hK
  refine va_put (D := D) (ci := 1) (v := .ref q3_) (ty := .array .int) (C := RX1) (T := TX1) (N := 9) hx hb hts in_X1 tyX1 tyX1_ok nmX1 hown hK hP hD hS 0 rfl rfl 3 (by decide) (hts _ q202) (fun _ h9 => h9) rfl (by decide +kernel) rfl rfl (Nat.le_of_ble_eq_true rfl) dX1_init_30 (fun H locs hP hD hS => ?_)
  have hP : va_P D vwCl [(h0, .inr (1, [.int 0, .ref q1_, .ref q2_, .ref q3_, .null, .null, .null, .int 0, .null])), (q1_, .inl (c1_, 20, .inl (fun _ => 0))), (q2_, .inl (c2_, 20, .inl (fun _ => 0))), (q3_, .inl (c3_, 20, .inl (fun _ => 0)))] H := hP
  have hD : va_D A [(h0, .inr (1, [.int 0, .ref q1_, .ref q2_, .ref q3_, .null, .null, .null, .int 0, .null])), (q1_, .inl (c1_, 20, .inl (fun _ => 0))), (q2_, .inl (c2_, 20, .inl (fun _ => 0))), (q3_, .inl (c3_, 20, .inl (fun _ => 0)))] := hD
  refine lv_aload_n hx hb dX1_init_33 rfl (lv_at hl 0 rfl) ?_
  refine lv_bipush (v := 20) hx hb dX1_init_34 (by decide) ?_
  refine va_newa (atype := .int) (ty := .int) (a0 := (20, .inl (fun _ => 0))) hx hb (hts _ q91) rfl hK hP hD hS hA (fun _ => rfl) (by decide) (by decide) (by decide) (Nat.le_of_ble_eq_true rfl) (Nat.le_of_ble_eq_true rfl) dX1_init_36 (fun q4_ c4_ H hK hP hD hS => ?_)
  refine W.widen (k := 4) (n := 80) (Nat.le_refl _) (Nat.le_refl _) ?_
  have hP : va_P D vwCl [(h0, .inr (1, [.int 0, .ref q1_, .ref q2_, .ref q3_, .null, .null, .null, .int 0, .null])), (q1_, .inl (c1_, 20, .inl (fun _ => 0))), (q2_, .inl (c2_, 20, .inl (fun _ => 0))), (q3_, .inl (c3_, 20, .inl (fun _ => 0))), (q4_, .inl (c4_, 20, .inl (fun _ => 0)))] H := hP
  have hD : va_D A [(h0, .inr (1, [.int 0, .ref q1_, .ref q2_, .ref q3_, .null, .null, .null, .int 0, .null])), (q1_, .inl (c1_, 20, .inl (fun _ => 0))), (q2_, .inl (c2_, 20, .inl (fun _ => 0))), (q3_, .inl (c3_, 20, .inl (fun _ => 0))), (q4_, .inl (c4_, 20, .inl (fun _ => 0)))] := hD
  have hK : va_K D vwCl [(c1_, .int), (c2_, .int), (c3_, .int), (c4_, .int)] s := hK
  refine va_put (D := D) (ci := 1) (v := .ref q4_) (ty := .array .int) (C := RX1) (T := TX1) (N := 9) hx hb hts in_X1 tyX1 tyX1_ok nmX1 hown hK hP hD hS 0 rfl rfl 4 (by decide) (hts _ q203) (fun _ h9 => h9) rfl (by decide +kernel) rfl rfl (Nat.le_of_ble_eq_true rfl) dX1_init_38 (fun H locs hP hD hS => ?_)
  have hP : va_P D vwCl [(h0, .inr (1, [.int 0, .ref q1_, .ref q2_, .ref q3_, .ref q4_, .null, .null, .int 0, .null])), (q1_, .inl (c1_, 20, .inl (fun _ => 0))), (q2_, .inl (c2_, 20, .inl (fun _ => 0))), (q3_, .inl (c3_, 20, .inl (fun _ => 0))), (q4_, .inl (c4_, 20, .inl (fun _ => 0)))] H := hP
  have hD : va_D A [(h0, .inr (1, [.int 0, .ref q1_, .ref q2_, .ref q3_, .ref q4_, .null, .null, .int 0, .null])), (q1_, .inl (c1_, 20, .inl (fun _ => 0))), (q2_, .inl (c2_, 20, .inl (fun _ => 0))), (q3_, .inl (c3_, 20, .inl (fun _ => 0))), (q4_, .inl (c4_, 20, .inl (fun _ => 0)))] := hD
  refine lv_aload_n hx hb dX1_init_41 rfl (lv_at hl 0 rfl) ?_
  refine lv_bipush (v := 6) hx hb dX1_init_42 (by decide) ?_
  refine va_newa (atype := .int) (ty := .int) (a0 := (6, .inl (fun _ => 0))) hx hb (hts _ q91) rfl hK hP hD hS hA (fun _ => rfl) (by decide) (by decide) (by decide) (Nat.le_of_ble_eq_true rfl) (Nat.le_of_ble_eq_true rfl) dX1_init_44 (fun q5_ c5_ H hK hP hD hS => ?_)
  refine W.widen (k := 5) (n := 86) (Nat.le_refl _) (Nat.le_refl _) ?_
  have hP : va_P D vwCl [(h0, .inr (1, [.int 0, .ref q1_, .ref q2_, .ref q3_, .ref q4_, .null, .null, .int 0, .null])), (q1_, .inl (c1_, 20, .inl (fun _ => 0))), (q2_, .inl (c2_, 20, .inl (fun _ => 0))), (q3_, .inl (c3_, 20, .inl (fun _ => 0))), (q4_, .inl (c4_, 20, .inl (fun _ => 0))), (q5_, .inl (c5_, 6, .inl (fun _ => 0)))] H := hP
  have hD : va_D A [(h0, .inr (1, [.int 0, .ref q1_, .ref q2_, .ref q3_, .ref q4_, .null, .null, .int 0, .null])), (q1_, .inl (c1_, 20, .inl (fun _ => 0))), (q2_, .inl (c2_, 20, .inl (fun _ => 0))), (q3_, .inl (c3_, 20, .inl (fun _ => 0))), (q4_, .inl (c4_, 20, .inl (fun _ => 0))), (q5_, .inl (c5_, 6, .inl (fun _ => 0)))] := hD
  have hK : va_K D vwCl [(c1_, .int), (c2_, .int), (c3_, .int), (c4_, .int), (c5_, .int)] s := hK
  refine va_put (D := D) (ci := 1) (v := .ref q5_) (ty := .array .int) (C := RX1) (T := TX1) (N := 9) hx hb hts in_X1 tyX1 tyX1_ok nmX1 hown hK hP hD hS 0 rfl rfl 5 (by decide) (hts _ q204) (fun _ h9 => h9) rfl (by decide +kernel) rfl rfl (Nat.le_of_ble_eq_true rfl) dX1_init_46 (fun H locs hP hD hS => ?_)
  have hP : va_P D vwCl [(h0, .inr (1, [.int 0, .ref q1_, .ref q2_, .ref q3_, .ref q4_, .ref q5_, .null, .int 0, .null])), (q1_, .inl (c1_, 20, .inl (fun _ => 0))), (q2_, .inl (c2_, 20, .inl (fun _ => 0))), (q3_, .inl (c3_, 20, .inl (fun _ => 0))), (q4_, .inl (c4_, 20, .inl (fun _ => 0))), (q5_, .inl (c5_, 6, .inl (fun _ => 0)))] H := hP
  have hD : va_D A [(h0, .inr (1, [.int 0, .ref q1_, .ref q2_, .ref q3_, .ref q4_, .ref q5_, .null, .int 0, .null])), (q1_, .inl (c1_, 20, .inl (fun _ => 0))), (q2_, .inl (c2_, 20, .inl (fun _ => 0))), (q3_, .inl (c3_, 20, .inl (fun _ => 0))), (q4_, .inl (c4_, 20, .inl (fun _ => 0))), (q5_, .inl (c5_, 6, .inl (fun _ => 0)))] := hD
  refine lv_aload_n hx hb dX1_init_49 rfl (lv_at hl 0 rfl) ?_
  refine lv_bipush (v := 16) hx hb dX1_init_50 (by decide) ?_
  refine va_newa (atype := .int) (ty := .int) (a0 := (16, .inl (fun _ => 0))) hx hb (hts _ q91) rfl hK hP hD hS hA (fun _ => rfl) (by decide) (by decide) (by decide) (Nat.le_of_ble_eq_true rfl) (Nat.le_of_ble_eq_true rfl) dX1_init_52 (fun q6_ c6_ H hK hP hD hS => ?_)
  refine W.widen (k := 6) (n := 102) (Nat.le_refl _) (Nat.le_refl _) ?_
  have hP : va_P D vwCl [(h0, .inr (1, [.int 0, .ref q1_, .ref q2_, .ref q3_, .ref q4_, .ref q5_, .null, .int 0, .null])), (q1_, .inl (c1_, 20, .inl (fun _ => 0))), (q2_, .inl (c2_, 20, .inl (fun _ => 0))), (q3_, .inl (c3_, 20, .inl (fun _ => 0))), (q4_, .inl (c4_, 20, .inl (fun _ => 0))), (q5_, .inl (c5_, 6, .inl (fun _ => 0))), (q6_, .inl (c6_, 16, .inl (fun _ => 0)))] H := hP
  have hD : va_D A [(h0, .inr (1, [.int 0, .ref q1_, .ref q2_, .ref q3_, .ref q4_, .ref q5_, .null, .int 0, .null])), (q1_, .inl (c1_, 20, .inl (fun _ => 0))), (q2_, .inl (c2_, 20, .inl (fun _ => 0))), (q3_, .inl (c3_, 20, .inl (fun _ => 0))), (q4_, .inl (c4_, 20, .inl (fun _ => 0))), (q5_, .inl (c5_, 6, .inl (fun _ => 0))), (q6_, .inl (c6_, 16, .inl (fun _ => 0)))] := hD
  have hK : va_K D vwCl [(c1_, .int), (c2_, .int), (c3_, .int), (c4_, .int), (c5_, .int), (c6_, .int)] s := hK
  refine va_put (D := D) (ci := 1) (v := .ref q6_) (ty := .array .int) (C := RX1) (T := TX1) (N := 9) hx hb hts in_X1 tyX1 tyX1_ok nmX1 hown hK hP hD hS 0 rfl rfl 6 (by decide) (hts _ q205) (fun _ h9 => h9) rfl (by decide +kernel) rfl rfl (Nat.le_of_ble_eq_true rfl) dX1_init_54 (fun H locs hP hD hS => ?_)
  have hP : va_P D vwCl [(h0, .inr (1, [.int 0, .ref q1_, .ref q2_, .ref q3_, .ref q4_, .ref q5_, .ref q6_, .int 0, .null])), (q1_, .inl (c1_, 20, .inl (fun _ => 0))), (q2_, .inl (c2_, 20, .inl (fun _ => 0))), (q3_, .inl (c3_, 20, .inl (fun _ => 0))), (q4_, .inl (c4_, 20, .inl (fun _ => 0))), (q5_, .inl (c5_, 6, .inl (fun _ => 0))), (q6_, .inl (c6_, 16, .inl (fun _ => 0)))] H := hP
  have hD : va_D A [(h0, .inr (1, [.int 0, .ref q1_, .ref q2_, .ref q3_, .ref q4_, .ref q5_, .ref q6_, .int 0, .null])), (q1_, .inl (c1_, 20, .inl (fun _ => 0))), (q2_, .inl (c2_, 20, .inl (fun _ => 0))), (q3_, .inl (c3_, 20, .inl (fun _ => 0))), (q4_, .inl (c4_, 20, .inl (fun _ => 0))), (q5_, .inl (c5_, 6, .inl (fun _ => 0))), (q6_, .inl (c6_, 16, .inl (fun _ => 0)))] := hD
  refine lv_aload_n hx hb dX1_init_57 rfl (lv_at hl 0 rfl) ?_
  refine lv_iconst (v := 0) hx hb dX1_init_58 (by decide) ?_
  refine va_put (D := D) (ci := 1) (v := .int 0) (ty := .int) (C := RX1) (T := TX1) (N := 9) hx hb hts in_X1 tyX1 tyX1_ok nmX1 hown hK hP hD hS 0 rfl rfl 7 (by decide) (hts _ q206) (fun _ h9 => h9) rfl (by decide +kernel) rfl rfl (Nat.le_of_ble_eq_true rfl) dX1_init_59 (fun H locs hP hD hS => ?_)
  have hP : va_P D vwCl [(h0, .inr (1, [.int 0, .ref q1_, .ref q2_, .ref q3_, .ref q4_, .ref q5_, .ref q6_, .int 0, .null])), (q1_, .inl (c1_, 20, .inl (fun _ => 0))), (q2_, .inl (c2_, 20, .inl (fun _ => 0))), (q3_, .inl (c3_, 20, .inl (fun _ => 0))), (q4_, .inl (c4_, 20, .inl (fun _ => 0))), (q5_, .inl (c5_, 6, .inl (fun _ => 0))), (q6_, .inl (c6_, 16, .inl (fun _ => 0)))] H := hP
  have hD : va_D A [(h0, .inr (1, [.int 0, .ref q1_, .ref q2_, .ref q3_, .ref q4_, .ref q5_, .ref q6_, .int 0, .null])), (q1_, .inl (c1_, 20, .inl (fun _ => 0))), (q2_, .inl (c2_, 20, .inl (fun _ => 0))), (q3_, .inl (c3_, 20, .inl (fun _ => 0))), (q4_, .inl (c4_, 20, .inl (fun _ => 0))), (q5_, .inl (c5_, 6, .inl (fun _ => 0))), (q6_, .inl (c6_, 16, .inl (fun _ => 0)))] := hD
  refine lv_aload_n hx hb dX1_init_62 rfl (lv_at hl 0 rfl) ?_
  refine lv_bipush (v := 16) hx hb dX1_init_63 (by decide) ?_
  refine va_newa (atype := .boolean) (ty := .boolean) (a0 := (16, .inl (fun _ => 0))) hx hb (hts _ q227) rfl hK hP hD hS hA (fun _ => rfl) (by decide) (by decide) (by decide) (Nat.le_of_ble_eq_true rfl) (Nat.le_of_ble_eq_true rfl) dX1_init_65 (fun q7_ c7_ H hK hP hD hS => ?_)
  refine W.widen (k := 7) (n := 118) (Nat.le_refl _) (Nat.le_refl _) ?_
  have hP : va_P D vwCl [(h0, .inr (1, [.int 0, .ref q1_, .ref q2_, .ref q3_, .ref q4_, .ref q5_, .ref q6_, .int 0, .null])), (q1_, .inl (c1_, 20, .inl (fun _ => 0))), (q2_, .inl (c2_, 20, .inl (fun _ => 0))), (q3_, .inl (c3_, 20, .inl (fun _ => 0))), (q4_, .inl (c4_, 20, .inl (fun _ => 0))), (q5_, .inl (c5_, 6, .inl (fun _ => 0))), (q6_, .inl (c6_, 16, .inl (fun _ => 0))), (q7_, .inl (c7_, 16, .inl (fun _ => 0)))] H := hP
  have hD : va_D A [(h0, .inr (1, [.int 0, .ref q1_, .ref q2_, .ref q3_, .ref q4_, .ref q5_, .ref q6_, .int 0, .null])), (q1_, .inl (c1_, 20, .inl (fun _ => 0))), (q2_, .inl (c2_, 20, .inl (fun _ => 0))), (q3_, .inl (c3_, 20, .inl (fun _ => 0))), (q4_, .inl (c4_, 20, .inl (fun _ => 0))), (q5_, .inl (c5_, 6, .inl (fun _ => 0))), (q6_, .inl (c6_, 16, .inl (fun _ => 0))), (q7_, .inl (c7_, 16, .inl (fun _ => 0)))] := hD
  have hK : va_K D vwCl [(c1_, .int), (c2_, .int), (c3_, .int), (c4_, .int), (c5_, .int), (c6_, .int), (c7_, .boolean)] s := hK
  refine va_put (D := D) (ci := 1) (v := .ref q7_) (ty := .array .boolean) (C := RX1) (T := TX1) (N := 9) hx hb hts in_X1 tyX1 tyX1_ok nmX1 hown hK hP hD hS 0 rfl rfl 8 (by decide) (hts _ q207) (fun _ h9 => h9) rfl (by decide +kernel) rfl rfl (Nat.le_of_ble_eq_true rfl) dX1_init_67 (fun H locs hP hD hS => ?_)
  have hP : va_P D vwCl [(h0, .inr (1, [.int 0, .ref q1_, .ref q2_, .ref q3_, .ref q4_, .ref q5_, .ref q6_, .int 0, .ref q7_])), (q1_, .inl (c1_, 20, .inl (fun _ => 0))), (q2_, .inl (c2_, 20, .inl (fun _ => 0))), (q3_, .inl (c3_, 20, .inl (fun _ => 0))), (q4_, .inl (c4_, 20, .inl (fun _ => 0))), (q5_, .inl (c5_, 6, .inl (fun _ => 0))), (q6_, .inl (c6_, 16, .inl (fun _ => 0))), (q7_, .inl (c7_, 16, .inl (fun _ => 0)))] H := hP
  have hD : va_D A [(h0, .inr (1, [.int 0, .ref q1_, .ref q2_, .ref q3_, .ref q4_, .ref q5_, .ref q6_, .int 0, .ref q7_])), (q1_, .inl (c1_, 20, .inl (fun _ => 0))), (q2_, .inl (c2_, 20, .inl (fun _ => 0))), (q3_, .inl (c3_, 20, .inl (fun _ => 0))), (q4_, .inl (c4_, 20, .inl (fun _ => 0))), (q5_, .inl (c5_, 6, .inl (fun _ => 0))), (q6_, .inl (c6_, 16, .inl (fun _ => 0))), (q7_, .inl (c7_, 16, .inl (fun _ => 0)))] := hD
  exact W.vret hx hb hr (fun t ht hW => ⟨⟨(fun k => ([c1_, c1_, c2_, c3_, c4_, c5_, c6_, c1_, c7_] : List ClassId).getD k c1_, fun k => ([h0, q1_, q2_, q3_, q4_, q5_, q6_, 0, q7_] : List Nat).getD k 0), rfl, trivial, rfl, by rw [ht]; exact hP, va_K.moved hW.alike hK, hD⟩, hS.F ht⟩) hS.2.2 dX1_init_70
end
section
set_option maxRecDepth 100000
/-! THE CLAIM OUT OF ONE WALK OF THE LAW'S BODY. Your part is whole_start (and what it stands on); all else here is the same for every law, but numbers. -/
def R_law : String := "LoadStoreQueueLaw"
def lw_P (b : Addr) (xs : List Int32) (args : Array Value) (s : State) : Prop := args = #[.ref b] ∧ s.IntsAt b xs ∧ xs.length ≤ 320 ∧ (Jvm.Cond.and given_1 narrow_1).before args s = true
def lw_Q (_ : Array Value) (s : State) (o : Outcome) (t : State) : Prop := o = .returned (some (.int 1)) ∧ Framed s o t [] 600000 7290000
def lw_Z (below : List Frame) (a : Array Value) (s : State) : State → Prop := fun t => ∃ o, t.status = .running ∧ Ended t below o ∧ lw_Q a s o t
/-- the law's own end, with 1 on the stack, nothing written that was there before, its room as the claim has it -/
theorem lw_ret {p : Program} {l : Launch} {e : Env} {s : State} {m : MethodId} {below : List Frame} {meth : Method} {c : Code} {b : Nat} (hx : p.tables.exec = Jvm.exec) (hb : c.code = code) (hr : meth.sig.returnType = ret) (hlocks : meth.locks = false) {pc : Nat} {H : Heap} {ls : Array Slot} (hdg : decode code pc = .ok (.ireturn, 1)) : W p l e room_1 s m #[Value.ref b] below meth c H [] 600000 7290000 (lw_Z below #[Value.ref b] s) (F0 m pc ls [.int 1]) := by
  intro T hT X
  obtain ⟨fs, hret, hrun, hended, hW, hframe⟩ := X.leave (v := some (.int 1)) (hlocks := hlocks) (fun h => by rw [hr] at h; cases h)
  have hmeth' : T.vm.method? m = some meth := X.method'
  refine ⟨T.setFrames fs, ?_, .returned (some (.int 1)), hrun, hended, rfl, ⟨_, rfl⟩, hW, hframe⟩
  jvm_step X.here [X.here.top, hx, hb, hdg, hmeth', hr, ret, narrow_b1]
  (try refine ⟨rfl, ?_⟩); (try refine ⟨rfl, ?_⟩)
  first | (intro acts; rw [hret _ acts rfl rfl rfl]) | rw [hret _ _ rfl rfl rfl]
  exact Steps.refl _
/-- what holds at the law's entry: the machine, the code, the tables' words (any of lw_tbl by 'hts w (by decide +kernel)'), the script of L ints xs at the cell b, what the Statement gives of the start (any of its parts by flat_of_before) -/
def lw_At (p : Program) (s : State) (m : MethodId) (meth : Method) (c : Code) (b L : Nat) (xs : Nat → Int32) : Prop :=
  p.tables.exec = Jvm.exec ∧ c.code = code ∧ meth.sig.returnType = ret ∧ c.maxLocals = 4 ∧ s.vm.findClass R_law = some m.cls ∧ (∀ w ∈ lw_tbl, w.before #[Value.ref b] s = true) ∧ va_X b L xs s s.heap ∧ b < s.heap.size ∧ meth.locks = false ∧ (Jvm.Cond.and given_1 narrow_1).before #[Value.ref b] s = true
end
section
set_option maxRecDepth 100000
/-! the two objects, call by call -/
def LI (σ τ : SX) (n : Nat) : Prop := n ≤ 20 ∧ σ.1 0 = nI n ∧ τ.1 0 = nI n ∧ (τ.2 1 = σ.2 1 ∧ τ.2 2 = σ.2 2 ∧ τ.2 3 = σ.2 3 ∧ τ.2 4 = σ.2 4) ∧ pg_ok σ.2 n ∧ τ.2 5 = σ.2 5 ∧ τ.2 6 = σ.2 6 ∧ τ.1 7 = σ.1 7 ∧ wbk (σ.1 8) (τ.2 8)
theorem li_0 : LI (fun _ => 0, fun _ _ => 0) (fun _ => 0, fun _ _ => 0) 0 :=
  ⟨by omega, rfl, rfl, ⟨rfl, rfl, rfl, rfl⟩, fun k hk => absurd hk (Nat.not_lt_zero _), rfl, rfl, rfl, wbk_0 (fun _ _ => rfl)⟩
theorem li_pg {σ τ : SX} {n : Nat} (h : LI σ τ n) : pg_ok τ.2 n := by
  obtain ⟨h1, h2, h3, ⟨e1, e2, e3, e4⟩, h5, -⟩ := h
  unfold pg_ok
  rw [e1, e2, e3, e4]
  exact h5
theorem pg_emit {σ : SX} {n : Nat} {op x y z : Int32} (h : pg_ok σ.2 n) (hB : ¬ emB op x y z) : pg_ok (emU σ n op x y z).2 (n + 1) := by
  intro k hk
  show (∃ o, o ≤ 6 ∧ upd (σ.2 1) n op k = nI o) ∧ (∃ r, r < 6 ∧ upd (σ.2 2) n x k = nI r) ∧ (upd (σ.2 1) n op k ≠ 0 → ∃ r, r < 6 ∧ upd (σ.2 3) n y k = nI r) ∧ (thr (upd (σ.2 1) n op k) → ∃ r, r < 6 ∧ upd (σ.2 4) n z k = nI r)
  by_cases hkn : k = n
  · subst hkn
    rw [up_at, up_at, up_at, up_at]
    refine ⟨nI_of2 (M := 6) (n := 6) rfl (fun z1 => hB (Or.inl (Or.inl z1))) (Int32.not_lt.mp (fun z1 => hB (Or.inl (Or.inr z1)))), bR_ok (fun z1 => hB (Or.inr (Or.inl z1))), fun c => bR_ok (fun z1 => hB (Or.inr (Or.inr (Or.inl ⟨c, z1⟩)))), fun c => bR_ok (fun z1 => hB (Or.inr (Or.inr (Or.inr ⟨c, z1⟩))))⟩
  · rw [up_ne hkn, up_ne hkn, up_ne hkn, up_ne hkn]
    exact h k (by omega)
theorem li_emit {σ τ u v : SX} {n : Nat} {op x y z r1 r2 : Int32} (h : LI σ τ n) (h1 : emP σ n op x y z r1 u) (h2 : emP τ n op x y z r2 v) : r1 = r2 ∧ ∃ k, LI u v k := by
  rcases h1 with ⟨a1, a2, a3⟩ | ⟨a1, a2, a3, a4⟩ | ⟨a1, a2, a3, a4⟩
  · rcases h2 with ⟨b1, b2, b3⟩ | ⟨b1, b2, b3, b4⟩ | ⟨b1, b2, b3, b4⟩
    · exact ⟨a2.trans b2.symm, n, by rw [a3, b3]; exact h⟩
    · omega
    · omega
  · rcases h2 with ⟨b1, b2, b3⟩ | ⟨b1, b2, b3, b4⟩ | ⟨b1, b2, b3, b4⟩
    · omega
    · exact ⟨a3.trans b3.symm, n, by rw [a4, b4]; exact h⟩
    · exact absurd a2 b2
  · rcases h2 with ⟨b1, b2, b3⟩ | ⟨b1, b2, b3, b4⟩ | ⟨b1, b2, b3, b4⟩
    · omega
    · exact absurd b2 a2
    · refine ⟨a3.trans b3.symm, n + 1, ?_⟩
      obtain ⟨c1, c2, c3, ⟨e1, e2, e3, e4⟩, c5, c6, c7, c8, c9⟩ := h
      rw [a4, b4]
      refine ⟨by omega, rfl, rfl, ⟨?_, ?_, ?_, ?_⟩, pg_emit c5 a2, c6, c7, c8, c9⟩
      · show upd (τ.2 1) n op = upd (σ.2 1) n op
        rw [e1]
      · show upd (τ.2 2) n x = upd (σ.2 2) n x
        rw [e2]
      · show upd (τ.2 3) n y = upd (σ.2 3) n y
        rw [e3]
      · show upd (τ.2 4) n z = upd (σ.2 4) n z
        rw [e4]
theorem li_retract {σ τ u v : SX} {n : Nat} {r1 r2 : Int32} (h : LI σ τ n) (h1 : (σ.1 0 = 0 ∧ r1 = -1 ∧ u = σ) ∨ (σ.1 0 ≠ 0 ∧ r1 = σ.1 0 - 1 ∧ u = sI σ 0 (σ.1 0 - 1))) (h2 : (τ.1 0 = 0 ∧ r2 = -1 ∧ v = τ) ∨ (τ.1 0 ≠ 0 ∧ r2 = τ.1 0 - 1 ∧ v = sI τ 0 (τ.1 0 - 1))) : r1 = r2 ∧ ∃ k, LI u v k := by
  obtain ⟨c1, c2, c3, c4, c5, c6, c7, c8, c9⟩ := id h
  rcases h1 with ⟨a1, a2, a3⟩ | ⟨a1, a2, a3⟩
  · rcases h2 with ⟨b1, b2, b3⟩ | ⟨b1, b2, b3⟩
    · exact ⟨a2.trans b2.symm, n, by rw [a3, b3]; exact h⟩
    · exact absurd (c3.trans (c2.symm.trans a1)) b1
  · rcases h2 with ⟨b1, b2, b3⟩ | ⟨b1, b2, b3⟩
    · exact absurd (c2.trans (c3.symm.trans b1)) a1
    · have hn0 : n ≠ 0 := fun z => a1 (by rw [c2, z]; rfl)
      obtain ⟨m, rfl⟩ : ∃ m, n = m + 1 := ⟨n - 1, by omega⟩
      rw [c2, nI_pred] at a2 a3
      rw [c3, nI_pred] at b2 b3
      refine ⟨a2.trans b2.symm, m, ?_⟩
      rw [a3, b3]
      exact ⟨by omega, rfl, rfl, c4, fun k hk => c5 k (by omega), c6, c7, c8, c9⟩
theorem li_drop {σ τ u v : SX} {n : Nat} {r1 r2 : Int32} (h : LI σ τ n) (h1 : u = sI σ 0 0 ∧ r1 = σ.1 0) (h2 : v = sI τ 0 0 ∧ r2 = τ.1 0) : r1 = r2 ∧ ∃ k, LI u v k := by
  obtain ⟨c1, c2, c3, c4, c5, c6, c7, c8, c9⟩ := h
  refine ⟨by rw [h1.2, h2.2, c2, c3], 0, ?_⟩
  rw [h1.1, h2.1]
  exact ⟨by omega, rfl, rfl, c4, fun k hk => absurd hk (Nat.not_lt_zero _), c6, c7, c8, c9⟩
theorem li_run {σ τ u v : SX} {n : Nat} {r1 r2 : Int32} (h : LI σ τ n) (h1 : runP σ (clr (τ.2 8) 16) n r1 u) (h2 : rnP τ n r2 v) : r1 = r2 ∧ ∃ k, LI u v k := by
  obtain ⟨c1, c2, c3, ⟨e1, e2, e3, e4⟩, c5, c6, c7, c8, c9⟩ := h
  obtain ⟨a1, a2, ⟨p1, p2, p3, p4⟩, t1, t2, t3, t4⟩ := h1
  obtain ⟨b1, b2, ⟨q1, q2, q3, q4⟩, b3⟩ := h2
  rw [e1, e2, e3, e4, c6, c7] at b3
  rw [← b3] at t1 t2 t3 t4
  refine ⟨a1.trans b1.symm, n, c1, a2, b2, ⟨?_, ?_, ?_, ?_⟩, ?_, t1.symm, t2.symm, t4.symm, t3⟩
  · rw [q1, e1, p1]
  · rw [q2, e2, p2]
  · rw [q3, e3, p3]
  · rw [q4, e4, p4]
  · unfold pg_ok
    rw [p1, p2, p3, p4]
    exact c5
theorem li_same {σ τ u v : SX} {n : Nat} {r1 r2 w1 w2 : Int32} (h : LI σ τ n) (h1 : u = σ ∧ r1 = w1) (h2 : v = τ ∧ r2 = w2) (he : w1 = w2) : r1 = r2 ∧ ∃ k, LI u v k := ⟨by rw [h1.2, h2.2, he], n, by rw [h1.1, h2.1]; exact h⟩
theorem li_setr {σ τ u v : SX} {n : Nat} {r x r1 r2 : Int32} (h : LI σ τ n) (h1 : (bR r = 0 ∧ r1 = 0 ∧ u = σ) ∨ (¬ bR r = 0 ∧ r1 = 1 ∧ u = sA σ 5 (tn r) x)) (h2 : (bR r = 0 ∧ r2 = 0 ∧ v = τ) ∨ (¬ bR r = 0 ∧ r2 = 1 ∧ v = sA τ 5 (tn r) x)) : r1 = r2 ∧ ∃ k, LI u v k := by
  obtain ⟨c1, c2, c3, c4, c5, c6, c7, c8, c9⟩ := id h
  rcases h1 with ⟨a1, a2, a3⟩ | ⟨a1, a2, a3⟩
  · rcases h2 with ⟨b1, b2, b3⟩ | ⟨b1, b2, b3⟩
    · exact ⟨a2.trans b2.symm, n, by rw [a3, b3]; exact h⟩
    · exact absurd a1 b1
  · rcases h2 with ⟨b1, b2, b3⟩ | ⟨b1, b2, b3⟩
    · exact absurd b1 a1
    · refine ⟨a2.trans b2.symm, n, ?_⟩
      rw [a3, b3]
      refine ⟨c1, c2, c3, c4, c5, ?_, c7, c8, c9⟩
      show upd (τ.2 5) (tn r) x = upd (σ.2 5) (tn r) x
      rw [c6]
theorem li_setm {σ τ u v : SX} {n : Nat} {r x r1 r2 : Int32} (h : LI σ τ n) (h1 : ((r < 0 ∨ 15 < r) ∧ r1 = 0 ∧ u = σ) ∨ (¬ (r < 0 ∨ 15 < r) ∧ r1 = 1 ∧ u = sA σ 6 (tn r) x)) (h2 : ((r < 0 ∨ 15 < r) ∧ r2 = 0 ∧ v = τ) ∨ (¬ (r < 0 ∨ 15 < r) ∧ r2 = 1 ∧ v = sA τ 6 (tn r) x)) : r1 = r2 ∧ ∃ k, LI u v k := by
  obtain ⟨c1, c2, c3, c4, c5, c6, c7, c8, c9⟩ := id h
  rcases h1 with ⟨a1, a2, a3⟩ | ⟨a1, a2, a3⟩
  · rcases h2 with ⟨b1, b2, b3⟩ | ⟨b1, b2, b3⟩
    · exact ⟨a2.trans b2.symm, n, by rw [a3, b3]; exact h⟩
    · exact absurd a1 b1
  · rcases h2 with ⟨b1, b2, b3⟩ | ⟨b1, b2, b3⟩
    · exact absurd b1 a1
    · refine ⟨a2.trans b2.symm, n, ?_⟩
      rw [a3, b3]
      refine ⟨c1, c2, c3, c4, c5, c6, ?_, c8, c9⟩
      show upd (τ.2 6) (tn r) x = upd (σ.2 6) (tn r) x
      rw [c7]
/-- the loop's bound: i ≤ L - 5 -/
theorem l5_t {L i : Nat} (hL : L ≤ 320) (hi : i ≤ 400) (h : ¬ Int32.ofNat L - nI 5 < nI i) : i + 5 ≤ L := by
  have h1 : (nI L - nI 5).toInt = (L : Int) - (5 : Nat) := pk_sub_toInt (by omega) (by omega)
  rcases Nat.lt_or_ge L (i + 5) with q | q
  · refine absurd (Int32.lt_iff_toInt_lt.mpr ?_) h
    show (nI L - nI 5).toInt < (nI i).toInt
    rw [h1, nI_toInt (by omega)]
    omega
  · exact q
theorem sw_lt {t : Nat} (h : t < 10) : ¬ (nI t).toInt < 0 ∧ ¬ 9 < (nI t).toInt := by
  rw [nI_toInt (by omega)]
  omega
theorem sw_ge {t : Nat} (h : t < 16) (h2 : 10 ≤ t) : (nI t).toInt < 0 ∨ 9 < (nI t).toInt := by
  rw [nI_toInt (by omega)]
  omega
end
section
set_option maxRecDepth 100000
/-- the law's world: both objects -/
def LWl (D : va_G) (d : Nat → ClassId) (h : Nat → Nat) (d1 : Nat → ClassId) (h1 : Nat → Nat) (A : Nat → Prop) (s : State) (H : Heap) (locs : List Loc) (σ τ : SX) : Prop := va_P D vwCl (wX0 d h σ ++ wX1 d1 h1 τ) H ∧ va_D A (wX0 d h σ ++ wX1 d1 h1 τ) ∧ va_S A s.heap H locs
def LEl (D : va_G) (d d1 : Nat → ClassId) (A : Nat → Prop) (p : Program) (s : State) (m : MethodId) (args : Array Value) (c : Code) : Prop :=
  p.tables.exec = Jvm.exec ∧ c.code = cL_law ∧ c.maxLocals = 4 ∧ s.vm.findClass R_law = some m.cls ∧ (∀ w ∈ lw_all, w.before args s = true) ∧ va_K D vwCl (tX0 d) s ∧ va_K D vwCl (tX1 d1) s ∧ (∀ q : Nat, s.heap.size ≤ q → A q)
section LAW
variable {p : Program} {l : Launch} {e : Env} {s : State} {m : MethodId} {args : Array Value} {below : List Frame} {meth : Method} {c : Code} {H : Heap} {locs : List Loc} {cells slots : Nat} {Q : State → Prop}
variable {pc : Nat} {ls : Array Slot} {rest st : List Value} {D : va_G} {d d1 : Nat → ClassId} {h h1 : Nat → Nat} {A : Nat → Prop} {σ τ : SX}
variable {y : MethodName} {bytes : ByteArray} {maxL idx n : Nat} {ret : Option FieldType} {rm : Room} {As : List Value} {post : Int32 → SX → Prop}
theorem lc0 (hM : MXi0 l y bytes maxL ret rm D d h As σ post) (E : LEl D d d1 A p s m args c) (hW : LWl D d h d1 h1 A s H locs σ τ) (hG : GoodIn lw_all (wsV R_law idx RX0 y (ws_ y bytes maxL ret))) (hrm : rm.cells = 0 ∧ rm.slots = 0)
    (hd : y.cls = RX0 ∧ y.cls ≠ "java/lang/invoke/MethodHandle" ∧ y.cls ≠ "java/lang/invoke/VarHandle" ∧ (parseMethodDescriptor y.desc).map (fun d => d.parameters.length) = some n) (hR : rm.frames + 1 ≤ room_1.frames ∧ 8 + (maxL + 11) + rm.locals ≤ room_1.locals) (hn : As.length = n) (hsz : ls.size = 4) (hst : st = As.reverse ++ .ref (h 0) :: rest) (hrs : (rest.map fun v => v.category).sum ≤ 8) (hf : cells ≤ room_1.cells ∧ slots ≤ room_1.slots) (hdg : decode cL_law pc = .ok (.invokevirtual idx, 3))
    (kk : ∀ (r : Int32) (u : SX) (H1 : Heap) (locs1 : List Loc), post r u → LWl D d h d1 h1 A s H1 locs1 u τ → W p l e room_1 s m args below meth c H1 locs1 cells slots Q (F0 m (pc + 3) ls (.int r :: rest))) : W p l e room_1 s m args below meth c H locs cells slots Q (F0 m pc ls st) := by
  subst hst
  obtain ⟨hx, hb, hml, hown, hts, hK0, hK1, hA⟩ := E
  obtain ⟨hP, hD, hS⟩ := hW
  have hPc := hP.sub (ws' := wX0 d h σ) [0, 1, 2, 3, 4, 5, 6, 7, 8, 9, 10, 11, 12, 13, 14, 15] rfl
  have hDc := hD.sub (ws' := wX0 d h σ) [0, 1, 2, 3, 4, 5, 6, 7, 8, 9, 10, 11, 12, 13, 14, 15] (by decide) rfl
  have hFc := va_free (wc := wX0 d h σ) hD hS hA [0, 1, 2, 3, 4, 5, 6, 7, 8, 9, 10, 11, 12, 13, 14, 15] rfl
  refine va_calli (va_runV (As := As) (rest := rest) ⟨hx, hb, hml, hown, hts⟩ (hM H.size) (cwV n hts hG rfl hrm.1 hrm.2 hd hR) ⟨fun a U g mk q => by obtain ⟨q0, q1, qP, qK, qD⟩ := q; exact ⟨q0, q1, qP, va_K.moved (u := U) (U := U.calling g mk a) (Vm.Alike.refl U.vm) qK, qD⟩, va_recv hK0 hPc (ci := 0) (q0 := 0) rfl rfl, fun U hU hW => ⟨rfl, by rw [hU], by rw [hU]; exact hPc, va_K.moved hW.alike hK0, hDc.weaken (fun _ _ _ _ => trivial)⟩⟩ rfl hn hsz rfl (lv_room hrs) hdg hf) hS (fun q _ h => hFc q h) hFc (fun r u t H1 locs1 ht hvm hp hB hz1 hk1 hS1 => ?_)
  obtain ⟨hP1, hK2, hD1⟩ := hB
  rw [ht] at hP1
  obtain ⟨hP, hD⟩ := va_join (wr := wX1 d1 h1 τ) (w1 := wX0 d h u) hP hD [0, 1, 2, 3, 4, 5, 6, 7, 8, 9, 10, 11, 12, 13, 14, 15] [16, 17, 18, 19, 20, 21, 22, 23] rfl rfl (by decide) (by decide) hk1 hFc hP1 hD1
  exact kk r u H1 locs1 hp ⟨hP.sub [8, 9, 10, 11, 12, 13, 14, 15, 16, 17, 18, 19, 20, 21, 22, 23, 0, 1, 2, 3, 4, 5, 6, 7] rfl, hD.sub [8, 9, 10, 11, 12, 13, 14, 15, 16, 17, 18, 19, 20, 21, 22, 23, 0, 1, 2, 3, 4, 5, 6, 7] (by decide) rfl, hS1⟩
theorem lc1 (hM : MXi1 l y bytes maxL ret rm D d1 h1 As τ post) (E : LEl D d d1 A p s m args c) (hW : LWl D d h d1 h1 A s H locs σ τ) (hG : GoodIn lw_all (wsV R_law idx RX1 y (ws_ y bytes maxL ret))) (hrm : rm.cells = 0 ∧ rm.slots = 0)
    (hd : y.cls = RX1 ∧ y.cls ≠ "java/lang/invoke/MethodHandle" ∧ y.cls ≠ "java/lang/invoke/VarHandle" ∧ (parseMethodDescriptor y.desc).map (fun d => d.parameters.length) = some n) (hR : rm.frames + 1 ≤ room_1.frames ∧ 8 + (maxL + 11) + rm.locals ≤ room_1.locals) (hn : As.length = n) (hsz : ls.size = 4) (hst : st = As.reverse ++ .ref (h1 0) :: rest) (hrs : (rest.map fun v => v.category).sum ≤ 8) (hf : cells ≤ room_1.cells ∧ slots ≤ room_1.slots) (hdg : decode cL_law pc = .ok (.invokevirtual idx, 3))
    (kk : ∀ (r : Int32) (u : SX) (H1 : Heap) (locs1 : List Loc), post r u → LWl D d h d1 h1 A s H1 locs1 σ u → W p l e room_1 s m args below meth c H1 locs1 cells slots Q (F0 m (pc + 3) ls (.int r :: rest))) : W p l e room_1 s m args below meth c H locs cells slots Q (F0 m pc ls st) := by
  subst hst
  obtain ⟨hx, hb, hml, hown, hts, hK0, hK1, hA⟩ := E
  obtain ⟨hP, hD, hS⟩ := hW
  have hPc := hP.sub (ws' := wX1 d1 h1 τ) [16, 17, 18, 19, 20, 21, 22, 23] rfl
  have hDc := hD.sub (ws' := wX1 d1 h1 τ) [16, 17, 18, 19, 20, 21, 22, 23] (by decide) rfl
  have hFc := va_free (wc := wX1 d1 h1 τ) hD hS hA [16, 17, 18, 19, 20, 21, 22, 23] rfl
  refine va_calli (va_runV (As := As) (rest := rest) ⟨hx, hb, hml, hown, hts⟩ (hM H.size) (cwV n hts hG rfl hrm.1 hrm.2 hd hR) ⟨fun a U g mk q => by obtain ⟨q0, q1, qP, qK, qD⟩ := q; exact ⟨q0, q1, qP, va_K.moved (u := U) (U := U.calling g mk a) (Vm.Alike.refl U.vm) qK, qD⟩, va_recv hK1 hPc (ci := 1) (q0 := 0) rfl rfl, fun U hU hW => ⟨rfl, by rw [hU], by rw [hU]; exact hPc, va_K.moved hW.alike hK1, hDc.weaken (fun _ _ _ _ => trivial)⟩⟩ rfl hn hsz rfl (lv_room hrs) hdg hf) hS (fun q _ h => hFc q h) hFc (fun r u t H1 locs1 ht hvm hp hB hz1 hk1 hS1 => ?_)
  obtain ⟨hP1, hK2, hD1⟩ := hB
  rw [ht] at hP1
  obtain ⟨hP, hD⟩ := va_join (wr := wX0 d h σ) (w1 := wX1 d1 h1 u) hP hD [16, 17, 18, 19, 20, 21, 22, 23] [0, 1, 2, 3, 4, 5, 6, 7, 8, 9, 10, 11, 12, 13, 14, 15] rfl rfl (by decide) (by decide) hk1 hFc hP1 hD1
  exact kk r u H1 locs1 hp ⟨hP, hD, hS1⟩
/-- the script, read -/
theorem lsl {b L j : Nat} {xs : Nat → Int32} {i : Int32} (E : LEl D d d1 A p s m args c) (hW : LWl D d h d1 h1 A s H locs σ τ) (hX : va_X b L xs s s.heap) (hbl : b < s.heap.size) (hbA : ¬ A b) (hL : L ≤ 320) (hi : i = nI j) (hj : j < L) (hdg : decode cL_law pc = .ok (.iaload, 1))
    (kk : W p l e room_1 s m args below meth c H locs cells slots Q (F0 m (pc + 1) ls (.int (xs j) :: rest))) : W p l e room_1 s m args below meth c H locs cells slots Q (F0 m pc ls (.int i :: .ref b :: rest)) := by
  subst hi
  refine va_sld E.1 E.2.1 hX hbl hbA hW.2.2 (vp_in_nI hj (by omega)) hdg ?_
  rw [nI_clamp (by omega)]
  exact kk
end LAW
set_option maxHeartbeats 8000000 in
/-- THE LAW'S LOOP at its head: i ints read, the two objects alike -/
theorem law_loop {p : Program} {l : Launch} {e : Env} {s : State} {m : MethodId} {below : List Frame} {meth : Method} {c : Code} {D : va_G} {d d1 : Nat → ClassId} {h h1 : Nat → Nat} {b L : Nat} {xs : Nat → Int32} (hL : L ≤ 320) (hr : meth.sig.returnType = ret) (hlocks : meth.locks = false) (hX : va_X b L xs s s.heap) (hbl : b < s.heap.size) (E : LEl D d d1 (fun q : Nat => s.heap.size ≤ q) p s m #[Value.ref b] c) :
    ∀ (w i : Nat) (σ τ : SX) (H : Heap) (locs : List Loc) (ls : Array Slot), i ≤ 400 → L < i + w → (∃ n, LI σ τ n) → LWl D d h d1 h1 (fun q : Nat => s.heap.size ≤ q) s H locs σ τ → lv_has ls 4 [(3, .int (nI i)), (2, .ref (h1 0)), (1, .ref (h 0)), (0, .ref b)] → W p l e room_1 s m #[Value.ref b] below meth c H locs 24 415 (lw_Z below #[Value.ref b] s) (F0 m 18 ls []) := by
  have hx := E.1
  have hb := E.2.1
  have hbA : ¬ (fun q : Nat => s.heap.size ≤ q) b := Nat.not_le.mpr hbl
  intro w
  induction w with
  | zero =>
    intro i σ τ H locs ls hi hw hLI hW hl
    refine lv_iload_n hx hb dL_law_18 rfl (lv_at hl 0 rfl) ?_
    refine lv_aload_n hx hb dL_law_19 rfl (lv_at hl 3 rfl) ?_
    refine va_slen hx hb hX hbl hbA hW.2.2 dL_law_20 ?_
    refine lv_iconst (v := (nI 5)) hx hb dL_law_21 (by decide) ?_
    refine lv_isub hx hb dL_law_22 ?_
    refine lv_icmp_gt (tgt := 334) hx hb dL_law_23 (by decide) (fun c23 => ?_) (fun c23 => ?_)
    · refine lv_iconst (v := 1) hx hb dL_law_334 (by decide) ?_
      refine va_forget (fun q hq => hW.2.2.2.2 q hq) ?_
      refine W.widen (k := 600000) (n := 7290000) (Nat.le_of_ble_eq_true rfl) (Nat.le_of_ble_eq_true rfl) ?_
      exact lw_ret hx hb hr hlocks dL_law_335
    · exact absurd (l5_t hL hi c23) (by omega)
  | succ w ih =>
    intro i σ τ H locs ls hi hw hLI hW hl
    have nxt : ∀ (σ τ : SX) (H : Heap) (locs : List Loc) (ls : Array Slot), i + 5 ≤ L → (∃ n, LI σ τ n) → LWl D d h d1 h1 (fun q : Nat => s.heap.size ≤ q) s H locs σ τ → lv_has ls 4 [(3, .int (nI i)), (2, .ref (h1 0)), (1, .ref (h 0)), (0, .ref b)] → W p l e room_1 s m #[Value.ref b] below meth c H locs 24 415 (lw_Z below #[Value.ref b] s) (F0 m 328 ls []) := by
      intro σ τ H locs ls h5 hLI hW hl
      refine lv_iinc (v := (nI (i + 5))) (lv' := [(3, .int (nI (i + 5))), (2, .ref _), (1, .ref _), (0, .ref _)]) hx hb dL_law_328 hl (k := 0) rfl (nI_add i 5) (by decide) rfl (fun ls hl => ?_)
      refine lv_goto (tgt := 18) hx hb dL_law_331 (by decide) ?_
      exact ih (i + 5) σ τ _ _ ls (by omega) (by omega) hLI hW (lv_sub hl [0, 1, 2, 3] rfl)
    obtain ⟨n, hLI⟩ := hLI
    have hn := hLI.1
    have hs0 := hLI.2.1
    have ht0 := hLI.2.2.1
    have hwb := hLI.2.2.2.2.2.2.2.2
    refine lv_iload_n hx hb dL_law_18 rfl (lv_at hl 0 rfl) ?_
    refine lv_aload_n hx hb dL_law_19 rfl (lv_at hl 3 rfl) ?_
    refine va_slen hx hb hX hbl hbA hW.2.2 dL_law_20 ?_
    refine lv_iconst (v := (nI 5)) hx hb dL_law_21 (by decide) ?_
    refine lv_isub hx hb dL_law_22 ?_
    refine lv_icmp_gt (tgt := 334) hx hb dL_law_23 (by decide) (fun c23 => ?_) (fun c23 => ?_)
    · refine lv_iconst (v := 1) hx hb dL_law_334 (by decide) ?_
      refine va_forget (fun q hq => hW.2.2.2.2 q hq) ?_
      refine W.widen (k := 600000) (n := 7290000) (Nat.le_of_ble_eq_true rfl) (Nat.le_of_ble_eq_true rfl) ?_
      exact lw_ret hx hb hr hlocks dL_law_335
    · have h5 : i + 5 ≤ L := l5_t hL hi c23
      refine lv_aload_n hx hb dL_law_26 rfl (lv_at hl 3 rfl) ?_
      refine lv_iload_n hx hb dL_law_27 rfl (lv_at hl 0 rfl) ?_
      refine lsl E hW hX hbl hbA hL rfl (by omega) dL_law_28 ?_
      refine lv_bipush (v := 15) hx hb dL_law_29 (by decide) ?_
      refine lv_iand hx hb dL_law_31 ?_
      obtain ⟨t, ht, et⟩ := pk_andE (xs i) (m := 15) 4 rfl
      rw [et]
      rcases Nat.lt_or_ge t 10 with ht10 | ht10
      · match t, ht10 with
        | 0, ht10 =>
          refine lv_tableIn (off := 56) (tgt := 88) hx hb dL_law_32 (sw_lt ht10).1 (sw_lt ht10).2 rfl (by decide) ?_
          refine lv_aload_n hx hb dL_law_88 rfl (lv_at hl 2 rfl) ?_
          refine lv_aload_n hx hb dL_law_89 rfl (lv_at hl 3 rfl) ?_
          refine lv_iload_n hx hb dL_law_90 rfl (lv_at hl 0 rfl) ?_
          refine lv_iconst (v := (nI 1)) hx hb dL_law_91 (by decide) ?_
          refine lv_iadd hx hb dL_law_92 ?_
          refine lsl E hW hX hbl hbA hL (nI_add i 1) (by omega) dL_law_93 ?_
          refine lv_aload_n hx hb dL_law_94 rfl (lv_at hl 3 rfl) ?_
          refine lv_iload_n hx hb dL_law_95 rfl (lv_at hl 0 rfl) ?_
          refine lv_iconst (v := (nI 2)) hx hb dL_law_96 (by decide) ?_
          refine lv_iadd hx hb dL_law_97 ?_
          refine lsl E hW hX hbl hbA hL (nI_add i 2) (by omega) dL_law_98 ?_
          refine lv_aload_n hx hb dL_law_99 rfl (lv_at hl 3 rfl) ?_
          refine lv_iload_n hx hb dL_law_100 rfl (lv_at hl 0 rfl) ?_
          refine lv_iconst (v := (nI 3)) hx hb dL_law_101 (by decide) ?_
          refine lv_iadd hx hb dL_law_102 ?_
          refine lsl E hW hX hbl hbA hL (nI_add i 3) (by omega) dL_law_103 ?_
          refine lv_aload_n hx hb dL_law_104 rfl (lv_at hl 3 rfl) ?_
          refine lv_iload_n hx hb dL_law_105 rfl (lv_at hl 0 rfl) ?_
          refine lv_iconst (v := (nI 4)) hx hb dL_law_106 (by decide) ?_
          refine lv_iadd hx hb dL_law_107 ?_
          refine lsl E hW hX hbl hbA hL (nI_add i 4) (by omega) dL_law_108 ?_
          refine lc0 (n := 4) (mX0_emit l D d h σ (xs (i + 1)) (xs (i + 2)) (xs (i + 3)) (xs (i + 4)) hn hs0) E hW (lw_V q92 q93 q94 q19 q95) ⟨rfl, rfl⟩ (by decide +kernel) ⟨Nat.le_of_ble_eq_true rfl, Nat.le_of_ble_eq_true rfl⟩ rfl hl.1 rfl (Nat.le_of_ble_eq_true rfl) ⟨Nat.le_of_ble_eq_true rfl, Nat.le_of_ble_eq_true rfl⟩ dL_law_109 (fun r1 u1 H locs p1 hW => ?_)
          refine lv_aload_n hx hb dL_law_112 rfl (lv_at hl 1 rfl) ?_
          refine lv_aload_n hx hb dL_law_113 rfl (lv_at hl 3 rfl) ?_
          refine lv_iload_n hx hb dL_law_114 rfl (lv_at hl 0 rfl) ?_
          refine lv_iconst (v := (nI 1)) hx hb dL_law_115 (by decide) ?_
          refine lv_iadd hx hb dL_law_116 ?_
          refine lsl E hW hX hbl hbA hL (nI_add i 1) (by omega) dL_law_117 ?_
          refine lv_aload_n hx hb dL_law_118 rfl (lv_at hl 3 rfl) ?_
          refine lv_iload_n hx hb dL_law_119 rfl (lv_at hl 0 rfl) ?_
          refine lv_iconst (v := (nI 2)) hx hb dL_law_120 (by decide) ?_
          refine lv_iadd hx hb dL_law_121 ?_
          refine lsl E hW hX hbl hbA hL (nI_add i 2) (by omega) dL_law_122 ?_
          refine lv_aload_n hx hb dL_law_123 rfl (lv_at hl 3 rfl) ?_
          refine lv_iload_n hx hb dL_law_124 rfl (lv_at hl 0 rfl) ?_
          refine lv_iconst (v := (nI 3)) hx hb dL_law_125 (by decide) ?_
          refine lv_iadd hx hb dL_law_126 ?_
          refine lsl E hW hX hbl hbA hL (nI_add i 3) (by omega) dL_law_127 ?_
          refine lv_aload_n hx hb dL_law_128 rfl (lv_at hl 3 rfl) ?_
          refine lv_iload_n hx hb dL_law_129 rfl (lv_at hl 0 rfl) ?_
          refine lv_iconst (v := (nI 4)) hx hb dL_law_130 (by decide) ?_
          refine lv_iadd hx hb dL_law_131 ?_
          refine lsl E hW hX hbl hbA hL (nI_add i 4) (by omega) dL_law_132 ?_
          refine lc1 (n := 4) (mX1_emit l D d1 h1 τ (xs (i + 1)) (xs (i + 2)) (xs (i + 3)) (xs (i + 4)) hn ht0) E hW (lw_V q228 q229 q230 q20 q231) ⟨rfl, rfl⟩ (by decide +kernel) ⟨Nat.le_of_ble_eq_true rfl, Nat.le_of_ble_eq_true rfl⟩ rfl hl.1 rfl (Nat.le_of_ble_eq_true rfl) ⟨Nat.le_of_ble_eq_true rfl, Nat.le_of_ble_eq_true rfl⟩ dL_law_133 (fun r2 u2 H locs p2 hW => ?_)
          obtain ⟨er, hLI2⟩ := li_emit hLI p1 p2
          refine lv_icmp_eq (tgt := 328) hx hb dL_law_136 (by decide) (fun c136 => ?_) (fun c136 => ?_)
          · exact nxt u1 u2 _ _ ls h5 hLI2 hW hl
          · exact absurd er c136
        | 1, ht10 =>
          refine lv_tableIn (off := 109) (tgt := 141) hx hb dL_law_32 (sw_lt ht10).1 (sw_lt ht10).2 rfl (by decide) ?_
          refine lv_aload_n hx hb dL_law_141 rfl (lv_at hl 2 rfl) ?_
          refine lc0 (n := 0) (mX0_retract l D d h σ) E hW (lw_V q100 q101 q102 q19 q103) ⟨rfl, rfl⟩ (by decide +kernel) ⟨Nat.le_of_ble_eq_true rfl, Nat.le_of_ble_eq_true rfl⟩ rfl hl.1 rfl (Nat.le_of_ble_eq_true rfl) ⟨Nat.le_of_ble_eq_true rfl, Nat.le_of_ble_eq_true rfl⟩ dL_law_142 (fun r1 u1 H locs p1 hW => ?_)
          refine lv_aload_n hx hb dL_law_145 rfl (lv_at hl 1 rfl) ?_
          refine lc1 (n := 0) (mX1_retract l D d1 h1 τ) E hW (lw_V q236 q237 q238 q20 q239) ⟨rfl, rfl⟩ (by decide +kernel) ⟨Nat.le_of_ble_eq_true rfl, Nat.le_of_ble_eq_true rfl⟩ rfl hl.1 rfl (Nat.le_of_ble_eq_true rfl) ⟨Nat.le_of_ble_eq_true rfl, Nat.le_of_ble_eq_true rfl⟩ dL_law_146 (fun r2 u2 H locs p2 hW => ?_)
          obtain ⟨er, hLI2⟩ := li_retract hLI p1 p2
          refine lv_icmp_eq (tgt := 328) hx hb dL_law_149 (by decide) (fun c149 => ?_) (fun c149 => ?_)
          · exact nxt u1 u2 _ _ ls h5 hLI2 hW hl
          · exact absurd er c149
        | 2, ht10 =>
          refine lv_tableIn (off := 122) (tgt := 154) hx hb dL_law_32 (sw_lt ht10).1 (sw_lt ht10).2 rfl (by decide) ?_
          refine lv_aload_n hx hb dL_law_154 rfl (lv_at hl 2 rfl) ?_
          refine lc0 (n := 0) (mX0_drop l D d h σ) E hW (lw_V q104 q105 q106 q19 q107) ⟨rfl, rfl⟩ (by decide +kernel) ⟨Nat.le_of_ble_eq_true rfl, Nat.le_of_ble_eq_true rfl⟩ rfl hl.1 rfl (Nat.le_of_ble_eq_true rfl) ⟨Nat.le_of_ble_eq_true rfl, Nat.le_of_ble_eq_true rfl⟩ dL_law_155 (fun r1 u1 H locs p1 hW => ?_)
          refine lv_aload_n hx hb dL_law_158 rfl (lv_at hl 1 rfl) ?_
          refine lc1 (n := 0) (mX1_drop l D d1 h1 τ) E hW (lw_V q240 q241 q242 q20 q243) ⟨rfl, rfl⟩ (by decide +kernel) ⟨Nat.le_of_ble_eq_true rfl, Nat.le_of_ble_eq_true rfl⟩ rfl hl.1 rfl (Nat.le_of_ble_eq_true rfl) ⟨Nat.le_of_ble_eq_true rfl, Nat.le_of_ble_eq_true rfl⟩ dL_law_159 (fun r2 u2 H locs p2 hW => ?_)
          obtain ⟨er, hLI2⟩ := li_drop hLI p1 p2
          refine lv_icmp_eq (tgt := 328) hx hb dL_law_162 (by decide) (fun c162 => ?_) (fun c162 => ?_)
          · exact nxt u1 u2 _ _ ls h5 hLI2 hW hl
          · exact absurd er c162
        | 3, ht10 =>
          refine lv_tableIn (off := 135) (tgt := 167) hx hb dL_law_32 (sw_lt ht10).1 (sw_lt ht10).2 rfl (by decide) ?_
          refine lv_aload_n hx hb dL_law_167 rfl (lv_at hl 2 rfl) ?_
          refine lv_aload_n hx hb dL_law_168 rfl (lv_at hl 3 rfl) ?_
          refine lv_iload_n hx hb dL_law_169 rfl (lv_at hl 0 rfl) ?_
          refine lv_iconst (v := (nI 1)) hx hb dL_law_170 (by decide) ?_
          refine lv_iadd hx hb dL_law_171 ?_
          refine lsl E hW hX hbl hbA hL (nI_add i 1) (by omega) dL_law_172 ?_
          refine lc0 (n := 1) (mX0_run l D d h σ (clr (τ.2 8) 16) (xs (i + 1)) hn hs0 hLI.2.2.2.2.1 (clr_0 _ 16)) E hW (lw_V q108 q109 q110 q19 q111) ⟨rfl, rfl⟩ (by decide +kernel) ⟨Nat.le_of_ble_eq_true rfl, Nat.le_of_ble_eq_true rfl⟩ rfl hl.1 rfl (Nat.le_of_ble_eq_true rfl) ⟨Nat.le_of_ble_eq_true rfl, Nat.le_of_ble_eq_true rfl⟩ dL_law_173 (fun r1 u1 H locs p1 hW => ?_)
          refine lv_aload_n hx hb dL_law_176 rfl (lv_at hl 1 rfl) ?_
          refine lv_aload_n hx hb dL_law_177 rfl (lv_at hl 3 rfl) ?_
          refine lv_iload_n hx hb dL_law_178 rfl (lv_at hl 0 rfl) ?_
          refine lv_iconst (v := (nI 1)) hx hb dL_law_179 (by decide) ?_
          refine lv_iadd hx hb dL_law_180 ?_
          refine lsl E hW hX hbl hbA hL (nI_add i 1) (by omega) dL_law_181 ?_
          refine lc1 (n := 1) (mX1_run l D d1 h1 τ (xs (i + 1)) hn ht0 (li_pg hLI)) E hW (lw_V q244 q245 q246 q20 q247) ⟨rfl, rfl⟩ (by decide +kernel) ⟨Nat.le_of_ble_eq_true rfl, Nat.le_of_ble_eq_true rfl⟩ rfl hl.1 rfl (Nat.le_of_ble_eq_true rfl) ⟨Nat.le_of_ble_eq_true rfl, Nat.le_of_ble_eq_true rfl⟩ dL_law_182 (fun r2 u2 H locs p2 hW => ?_)
          obtain ⟨er, hLI2⟩ := li_run hLI p1 p2
          refine lv_icmp_eq (tgt := 328) hx hb dL_law_185 (by decide) (fun c185 => ?_) (fun c185 => ?_)
          · exact nxt u1 u2 _ _ ls h5 hLI2 hW hl
          · exact absurd er c185
        | 4, ht10 =>
          refine lv_tableIn (off := 158) (tgt := 190) hx hb dL_law_32 (sw_lt ht10).1 (sw_lt ht10).2 rfl (by decide) ?_
          refine lv_aload_n hx hb dL_law_190 rfl (lv_at hl 2 rfl) ?_
          refine lc0 (n := 0) (mX0_fed l D d h σ) E hW (lw_V q169 q170 q171 q19 q172) ⟨rfl, rfl⟩ (by decide +kernel) ⟨Nat.le_of_ble_eq_true rfl, Nat.le_of_ble_eq_true rfl⟩ rfl hl.1 rfl (Nat.le_of_ble_eq_true rfl) ⟨Nat.le_of_ble_eq_true rfl, Nat.le_of_ble_eq_true rfl⟩ dL_law_191 (fun r1 u1 H locs p1 hW => ?_)
          refine lv_aload_n hx hb dL_law_194 rfl (lv_at hl 1 rfl) ?_
          refine lc1 (n := 0) (mX1_fed l D d1 h1 τ) E hW (lw_V q256 q257 q258 q20 q259) ⟨rfl, rfl⟩ (by decide +kernel) ⟨Nat.le_of_ble_eq_true rfl, Nat.le_of_ble_eq_true rfl⟩ rfl hl.1 rfl (Nat.le_of_ble_eq_true rfl) ⟨Nat.le_of_ble_eq_true rfl, Nat.le_of_ble_eq_true rfl⟩ dL_law_195 (fun r2 u2 H locs p2 hW => ?_)
          obtain ⟨er, hLI2⟩ := li_same hLI p1 p2 hLI.2.2.2.2.2.2.2.1.symm
          refine lv_icmp_eq (tgt := 328) hx hb dL_law_198 (by decide) (fun c198 => ?_) (fun c198 => ?_)
          · exact nxt u1 u2 _ _ ls h5 hLI2 hW hl
          · exact absurd er c198
        | 5, ht10 =>
          refine lv_tableIn (off := 171) (tgt := 203) hx hb dL_law_32 (sw_lt ht10).1 (sw_lt ht10).2 rfl (by decide) ?_
          refine lv_aload_n hx hb dL_law_203 rfl (lv_at hl 2 rfl) ?_
          refine lc0 (n := 0) (mX0_written l D d h σ (τ.2 8) hwb) E hW (lw_V q173 q174 q175 q19 q176) ⟨rfl, rfl⟩ (by decide +kernel) ⟨Nat.le_of_ble_eq_true rfl, Nat.le_of_ble_eq_true rfl⟩ rfl hl.1 rfl (Nat.le_of_ble_eq_true rfl) ⟨Nat.le_of_ble_eq_true rfl, Nat.le_of_ble_eq_true rfl⟩ dL_law_204 (fun r1 u1 H locs p1 hW => ?_)
          refine lv_aload_n hx hb dL_law_207 rfl (lv_at hl 1 rfl) ?_
          refine lc1 (n := 0) (mX1_written l D d1 h1 τ (τ.2 8) (fun j hj => ⟨rfl, wbk_01 hwb hj⟩)) E hW (lw_V q260 q261 q262 q20 q263) ⟨rfl, rfl⟩ (by decide +kernel) ⟨Nat.le_of_ble_eq_true rfl, Nat.le_of_ble_eq_true rfl⟩ rfl hl.1 rfl (Nat.le_of_ble_eq_true rfl) ⟨Nat.le_of_ble_eq_true rfl, Nat.le_of_ble_eq_true rfl⟩ dL_law_208 (fun r2 u2 H locs p2 hW => ?_)
          obtain ⟨er, hLI2⟩ := li_same hLI p1 p2 rfl
          refine lv_icmp_eq (tgt := 328) hx hb dL_law_211 (by decide) (fun c211 => ?_) (fun c211 => ?_)
          · exact nxt u1 u2 _ _ ls h5 hLI2 hW hl
          · exact absurd er c211
        | 6, ht10 =>
          refine lv_tableIn (off := 184) (tgt := 216) hx hb dL_law_32 (sw_lt ht10).1 (sw_lt ht10).2 rfl (by decide) ?_
          refine lv_aload_n hx hb dL_law_216 rfl (lv_at hl 2 rfl) ?_
          refine lv_aload_n hx hb dL_law_217 rfl (lv_at hl 3 rfl) ?_
          refine lv_iload_n hx hb dL_law_218 rfl (lv_at hl 0 rfl) ?_
          refine lv_iconst (v := (nI 1)) hx hb dL_law_219 (by decide) ?_
          refine lv_iadd hx hb dL_law_220 ?_
          refine lsl E hW hX hbl hbA hL (nI_add i 1) (by omega) dL_law_221 ?_
          refine lc0 (n := 1) (mX0_register l D d h σ (xs (i + 1))) E hW (lw_V q177 q178 q179 q19 q180) ⟨rfl, rfl⟩ (by decide +kernel) ⟨Nat.le_of_ble_eq_true rfl, Nat.le_of_ble_eq_true rfl⟩ rfl hl.1 rfl (Nat.le_of_ble_eq_true rfl) ⟨Nat.le_of_ble_eq_true rfl, Nat.le_of_ble_eq_true rfl⟩ dL_law_222 (fun r1 u1 H locs p1 hW => ?_)
          refine lv_aload_n hx hb dL_law_225 rfl (lv_at hl 1 rfl) ?_
          refine lv_aload_n hx hb dL_law_226 rfl (lv_at hl 3 rfl) ?_
          refine lv_iload_n hx hb dL_law_227 rfl (lv_at hl 0 rfl) ?_
          refine lv_iconst (v := (nI 1)) hx hb dL_law_228 (by decide) ?_
          refine lv_iadd hx hb dL_law_229 ?_
          refine lsl E hW hX hbl hbA hL (nI_add i 1) (by omega) dL_law_230 ?_
          refine lc1 (n := 1) (mX1_register l D d1 h1 τ (xs (i + 1))) E hW (lw_V q264 q265 q266 q20 q267) ⟨rfl, rfl⟩ (by decide +kernel) ⟨Nat.le_of_ble_eq_true rfl, Nat.le_of_ble_eq_true rfl⟩ rfl hl.1 rfl (Nat.le_of_ble_eq_true rfl) ⟨Nat.le_of_ble_eq_true rfl, Nat.le_of_ble_eq_true rfl⟩ dL_law_231 (fun r2 u2 H locs p2 hW => ?_)
          obtain ⟨er, hLI2⟩ := li_same hLI p1 p2 (by rw [hLI.2.2.2.2.2.1])
          refine lv_icmp_eq (tgt := 328) hx hb dL_law_234 (by decide) (fun c234 => ?_) (fun c234 => ?_)
          · exact nxt u1 u2 _ _ ls h5 hLI2 hW hl
          · exact absurd er c234
        | 7, ht10 =>
          refine lv_tableIn (off := 207) (tgt := 239) hx hb dL_law_32 (sw_lt ht10).1 (sw_lt ht10).2 rfl (by decide) ?_
          refine lv_aload_n hx hb dL_law_239 rfl (lv_at hl 2 rfl) ?_
          refine lv_aload_n hx hb dL_law_240 rfl (lv_at hl 3 rfl) ?_
          refine lv_iload_n hx hb dL_law_241 rfl (lv_at hl 0 rfl) ?_
          refine lv_iconst (v := (nI 1)) hx hb dL_law_242 (by decide) ?_
          refine lv_iadd hx hb dL_law_243 ?_
          refine lsl E hW hX hbl hbA hL (nI_add i 1) (by omega) dL_law_244 ?_
          refine lv_aload_n hx hb dL_law_245 rfl (lv_at hl 3 rfl) ?_
          refine lv_iload_n hx hb dL_law_246 rfl (lv_at hl 0 rfl) ?_
          refine lv_iconst (v := (nI 2)) hx hb dL_law_247 (by decide) ?_
          refine lv_iadd hx hb dL_law_248 ?_
          refine lsl E hW hX hbl hbA hL (nI_add i 2) (by omega) dL_law_249 ?_
          refine lc0 (n := 2) (mX0_setRegister l D d h σ (xs (i + 1)) (xs (i + 2))) E hW (lw_V q181 q182 q183 q19 q184) ⟨rfl, rfl⟩ (by decide +kernel) ⟨Nat.le_of_ble_eq_true rfl, Nat.le_of_ble_eq_true rfl⟩ rfl hl.1 rfl (Nat.le_of_ble_eq_true rfl) ⟨Nat.le_of_ble_eq_true rfl, Nat.le_of_ble_eq_true rfl⟩ dL_law_250 (fun r1 u1 H locs p1 hW => ?_)
          refine lv_aload_n hx hb dL_law_253 rfl (lv_at hl 1 rfl) ?_
          refine lv_aload_n hx hb dL_law_254 rfl (lv_at hl 3 rfl) ?_
          refine lv_iload_n hx hb dL_law_255 rfl (lv_at hl 0 rfl) ?_
          refine lv_iconst (v := (nI 1)) hx hb dL_law_256 (by decide) ?_
          refine lv_iadd hx hb dL_law_257 ?_
          refine lsl E hW hX hbl hbA hL (nI_add i 1) (by omega) dL_law_258 ?_
          refine lv_aload_n hx hb dL_law_259 rfl (lv_at hl 3 rfl) ?_
          refine lv_iload_n hx hb dL_law_260 rfl (lv_at hl 0 rfl) ?_
          refine lv_iconst (v := (nI 2)) hx hb dL_law_261 (by decide) ?_
          refine lv_iadd hx hb dL_law_262 ?_
          refine lsl E hW hX hbl hbA hL (nI_add i 2) (by omega) dL_law_263 ?_
          refine lc1 (n := 2) (mX1_setRegister l D d1 h1 τ (xs (i + 1)) (xs (i + 2))) E hW (lw_V q268 q269 q270 q20 q271) ⟨rfl, rfl⟩ (by decide +kernel) ⟨Nat.le_of_ble_eq_true rfl, Nat.le_of_ble_eq_true rfl⟩ rfl hl.1 rfl (Nat.le_of_ble_eq_true rfl) ⟨Nat.le_of_ble_eq_true rfl, Nat.le_of_ble_eq_true rfl⟩ dL_law_264 (fun r2 u2 H locs p2 hW => ?_)
          obtain ⟨er, hLI2⟩ := li_setr hLI p1 p2
          refine lv_icmp_eq (tgt := 328) hx hb dL_law_267 (by decide) (fun c267 => ?_) (fun c267 => ?_)
          · exact nxt u1 u2 _ _ ls h5 hLI2 hW hl
          · exact absurd er c267
        | 8, ht10 =>
          refine lv_tableIn (off := 240) (tgt := 272) hx hb dL_law_32 (sw_lt ht10).1 (sw_lt ht10).2 rfl (by decide) ?_
          refine lv_aload_n hx hb dL_law_272 rfl (lv_at hl 2 rfl) ?_
          refine lv_aload_n hx hb dL_law_273 rfl (lv_at hl 3 rfl) ?_
          refine lv_iload_n hx hb dL_law_274 rfl (lv_at hl 0 rfl) ?_
          refine lv_iconst (v := (nI 1)) hx hb dL_law_275 (by decide) ?_
          refine lv_iadd hx hb dL_law_276 ?_
          refine lsl E hW hX hbl hbA hL (nI_add i 1) (by omega) dL_law_277 ?_
          refine lc0 (n := 1) (mX0_memory l D d h σ (xs (i + 1))) E hW (lw_V q185 q186 q187 q19 q188) ⟨rfl, rfl⟩ (by decide +kernel) ⟨Nat.le_of_ble_eq_true rfl, Nat.le_of_ble_eq_true rfl⟩ rfl hl.1 rfl (Nat.le_of_ble_eq_true rfl) ⟨Nat.le_of_ble_eq_true rfl, Nat.le_of_ble_eq_true rfl⟩ dL_law_278 (fun r1 u1 H locs p1 hW => ?_)
          refine lv_aload_n hx hb dL_law_281 rfl (lv_at hl 1 rfl) ?_
          refine lv_aload_n hx hb dL_law_282 rfl (lv_at hl 3 rfl) ?_
          refine lv_iload_n hx hb dL_law_283 rfl (lv_at hl 0 rfl) ?_
          refine lv_iconst (v := (nI 1)) hx hb dL_law_284 (by decide) ?_
          refine lv_iadd hx hb dL_law_285 ?_
          refine lsl E hW hX hbl hbA hL (nI_add i 1) (by omega) dL_law_286 ?_
          refine lc1 (n := 1) (mX1_memory l D d1 h1 τ (xs (i + 1))) E hW (lw_V q272 q273 q274 q20 q275) ⟨rfl, rfl⟩ (by decide +kernel) ⟨Nat.le_of_ble_eq_true rfl, Nat.le_of_ble_eq_true rfl⟩ rfl hl.1 rfl (Nat.le_of_ble_eq_true rfl) ⟨Nat.le_of_ble_eq_true rfl, Nat.le_of_ble_eq_true rfl⟩ dL_law_287 (fun r2 u2 H locs p2 hW => ?_)
          obtain ⟨er, hLI2⟩ := li_same hLI p1 p2 (by rw [hLI.2.2.2.2.2.2.1])
          refine lv_icmp_eq (tgt := 328) hx hb dL_law_290 (by decide) (fun c290 => ?_) (fun c290 => ?_)
          · exact nxt u1 u2 _ _ ls h5 hLI2 hW hl
          · exact absurd er c290
        | 9, ht10 =>
          refine lv_tableIn (off := 263) (tgt := 295) hx hb dL_law_32 (sw_lt ht10).1 (sw_lt ht10).2 rfl (by decide) ?_
          refine lv_aload_n hx hb dL_law_295 rfl (lv_at hl 2 rfl) ?_
          refine lv_aload_n hx hb dL_law_296 rfl (lv_at hl 3 rfl) ?_
          refine lv_iload_n hx hb dL_law_297 rfl (lv_at hl 0 rfl) ?_
          refine lv_iconst (v := (nI 1)) hx hb dL_law_298 (by decide) ?_
          refine lv_iadd hx hb dL_law_299 ?_
          refine lsl E hW hX hbl hbA hL (nI_add i 1) (by omega) dL_law_300 ?_
          refine lv_aload_n hx hb dL_law_301 rfl (lv_at hl 3 rfl) ?_
          refine lv_iload_n hx hb dL_law_302 rfl (lv_at hl 0 rfl) ?_
          refine lv_iconst (v := (nI 2)) hx hb dL_law_303 (by decide) ?_
          refine lv_iadd hx hb dL_law_304 ?_
          refine lsl E hW hX hbl hbA hL (nI_add i 2) (by omega) dL_law_305 ?_
          refine lc0 (n := 2) (mX0_setMemory l D d h σ (xs (i + 1)) (xs (i + 2))) E hW (lw_V q189 q190 q191 q19 q192) ⟨rfl, rfl⟩ (by decide +kernel) ⟨Nat.le_of_ble_eq_true rfl, Nat.le_of_ble_eq_true rfl⟩ rfl hl.1 rfl (Nat.le_of_ble_eq_true rfl) ⟨Nat.le_of_ble_eq_true rfl, Nat.le_of_ble_eq_true rfl⟩ dL_law_306 (fun r1 u1 H locs p1 hW => ?_)
          refine lv_aload_n hx hb dL_law_309 rfl (lv_at hl 1 rfl) ?_
          refine lv_aload_n hx hb dL_law_310 rfl (lv_at hl 3 rfl) ?_
          refine lv_iload_n hx hb dL_law_311 rfl (lv_at hl 0 rfl) ?_
          refine lv_iconst (v := (nI 1)) hx hb dL_law_312 (by decide) ?_
          refine lv_iadd hx hb dL_law_313 ?_
          refine lsl E hW hX hbl hbA hL (nI_add i 1) (by omega) dL_law_314 ?_
          refine lv_aload_n hx hb dL_law_315 rfl (lv_at hl 3 rfl) ?_
          refine lv_iload_n hx hb dL_law_316 rfl (lv_at hl 0 rfl) ?_
          refine lv_iconst (v := (nI 2)) hx hb dL_law_317 (by decide) ?_
          refine lv_iadd hx hb dL_law_318 ?_
          refine lsl E hW hX hbl hbA hL (nI_add i 2) (by omega) dL_law_319 ?_
          refine lc1 (n := 2) (mX1_setMemory l D d1 h1 τ (xs (i + 1)) (xs (i + 2))) E hW (lw_V q276 q277 q278 q20 q279) ⟨rfl, rfl⟩ (by decide +kernel) ⟨Nat.le_of_ble_eq_true rfl, Nat.le_of_ble_eq_true rfl⟩ rfl hl.1 rfl (Nat.le_of_ble_eq_true rfl) ⟨Nat.le_of_ble_eq_true rfl, Nat.le_of_ble_eq_true rfl⟩ dL_law_320 (fun r2 u2 H locs p2 hW => ?_)
          obtain ⟨er, hLI2⟩ := li_setm hLI p1 p2
          refine lv_icmp_eq (tgt := 328) hx hb dL_law_323 (by decide) (fun c323 => ?_) (fun c323 => ?_)
          · exact nxt u1 u2 _ _ ls h5 hLI2 hW hl
          · exact absurd er c323
      · refine lv_tableOut (tgt := 328) hx hb dL_law_32 (sw_ge ht ht10) (by decide) ?_
        exact nxt σ τ _ _ ls h5 ⟨n, hLI⟩ hW hl
end
section
set_option maxRecDepth 100000
set_option maxHeartbeats 8000000 in
/-- THE LAW, from its entry -/
theorem whole_start {p : Program} {e : Env} {s : State} {m : MethodId} {below : List Frame} {meth : Method} {c : Code} (l : Launch) {b L : Nat} {xs : Nat → Int32} (hL : L ≤ 320) (C0 : lw_At p s m meth c b L xs) : W p l e room_1 s m #[Value.ref b] below meth c s.heap [] 0 0 (lw_Z below #[Value.ref b] s) (entryFrame m ([Value.ref b] : List Value).toArray 4) := by
  obtain ⟨hx, hb, hr, hml, hown, hts0, hX, hbl, hlocks, hgv⟩ := id C0
  have hts : ∀ w ∈ lw_all, w.before #[Value.ref b] s = true := fun w h => hts0 w (lw_all_tbl h)
  have hA : ∀ q : Nat, s.heap.size ≤ q → (fun q : Nat => s.heap.size ≤ q) q := fun _ h => h
  obtain ⟨c0_, iS0, hKn0⟩ := u_known (C := RX0) (T := TX0) (N := 20) (n := 20) hts in_X0 (hts _ q22)
  obtain ⟨c1_, iS1, hKn1⟩ := u_known (C := RX1) (T := TX1) (N := 9) (n := 9) hts in_X1 (hts _ q194)
  obtain ⟨D, hKc⟩ : ∃ (D : va_G), ∀ (k : Nat) (q : vw_C), vwCl[k]? = some q → u_Kn s q.1 q.2.1 q.2.2 (D.1 k) (D.2 k) := by
    refine ⟨(fun k => if k = 0 then c0_ else c1_, fun k => if k = 0 then iS0 else iS1), ?_⟩
    intro k q hq
    match k, hq with
    | 0, hq => cases hq; exact hKn0
    | 1, hq => cases hq; exact hKn1
    | k + 2, hq => simp [vwCl] at hq
  have hS : va_S (fun q : Nat => s.heap.size ≤ q) s.heap s.heap [] := va_S.rf
  have hK : va_K D vwCl [] s := ⟨hKc, fun k q h => by simp at h⟩
  have hP : va_P D vwCl [] s.heap := fun k q h => by simp at h
  have hD : va_D (fun q : Nat => s.heap.size ≤ q) [] := ⟨fun i j p q h => by simp at h, fun k q h => by simp at h⟩
  have hl := lv_entry ([.ref b]) (n := 4) (Nat.le_of_ble_eq_true rfl)
  rw [lg_entry_eq]
  generalize (lg_sl ([.ref b]) ++ List.replicate (4 - (lg_sl ([.ref b])).length) Slot.unset).toArray = ls at hl ⊢
  have hl : lv_has ls 4 [(0, .ref b)] := hl
  have dv0 : ∀ j, j < 20 → defaultValue (tyX0 j) = vp_V [.int 0, .null, .null, .null, .null, .null, .null, .int 0, .int 0, .null, .null, .null, .null, .null, .null, .null, .null, .null, .int 0, .int 0] j := fun j hj => by
    match j, hj with
    | 0, _ => rfl
    | 1, _ => rfl
    | 2, _ => rfl
    | 3, _ => rfl
    | 4, _ => rfl
    | 5, _ => rfl
    | 6, _ => rfl
    | 7, _ => rfl
    | 8, _ => rfl
    | 9, _ => rfl
    | 10, _ => rfl
    | 11, _ => rfl
    | 12, _ => rfl
    | 13, _ => rfl
    | 14, _ => rfl
    | 15, _ => rfl
    | 16, _ => rfl
    | 17, _ => rfl
    | 18, _ => rfl
    | 19, _ => rfl
    | k + 20, hj => exact absurd hj (by omega)
  refine va_new (ci := 0) (fs := [.int 0, .null, .null, .null, .null, .null, .null, .int 0, .int 0, .null, .null, .null, .null, .null, .null, .null, .null, .null, .int 0, .int 0]) (C := RX0) (T := TX0) (N := 20) hx hb hts in_X0 tyX0 tyX0_ok hown (hts _ q21) (hts _ q22) (hts _ q19) hK hP hD hS hA rfl dv0 (Nat.le_of_ble_eq_true rfl) (Nat.le_of_ble_eq_true rfl) dL_law_0 (fun q0 H hP hD hS => ?_)
  have hP : va_P D vwCl (w0X0 q0) H := hP
  have hD : va_D (fun q : Nat => s.heap.size ≤ q) (w0X0 q0) := hD
  refine W.widen (k := 1) (n := 20) (by omega) (by omega) ?_
  refine lv_dup hx hb dL_law_3 rfl ?_
  have hFc := va_free (wc := w0X0 q0) hD hS hA [0] rfl
  refine va_callv (va_runI (As := []) (rest := [.ref q0]) ⟨hx, hb, hml, hown, hts⟩ (mX0_init l D q0 H.size) (cwI 0 hts (lw_meth q25) rfl rfl rfl (hts _ q19) (hts _ q23) (hts _ q24) rfl (by decide +kernel) ⟨Nat.le_of_ble_eq_true rfl, Nat.le_of_ble_eq_true rfl⟩) ⟨fun a U g mk q => by obtain ⟨q0, q1, qP, qK, qD⟩ := q; exact ⟨q0, q1, qP, va_K.moved (u := U) (U := U.calling g mk a) (Vm.Alike.refl U.vm) qK, qD⟩, fun U hU hW => ⟨rfl, by rw [hU], by rw [hU]; exact hP, va_K.moved hW.alike hK, va_D.weaken hD (fun _ _ _ _ => trivial)⟩⟩ rfl rfl hl.1 rfl (lv_room (Nat.le_of_ble_eq_true rfl)) dL_law_4 ⟨Nat.le_of_ble_eq_true rfl, Nat.le_of_ble_eq_true rfl⟩) hS (fun q _ h => hFc q h) hFc (fun u t H1 locs ht hvm hw hB hz1 hk1 hS => ?_)
  obtain ⟨d, h⟩ := u
  obtain ⟨e0, hP1, hK1, hD1⟩ := hB
  rw [ht] at hP1
  have e0 : h 0 = q0 := e0
  subst e0
  have hK0 : va_K D vwCl (tX0 d) s := va_K.moved hvm.symm hK1
  obtain ⟨hP, hD⟩ := va_join (wr := []) (w1 := wX0 d h (fun _ => 0, fun _ _ => 0)) hP hD [0] [] rfl rfl (by decide) (by decide) hk1 hFc hP1 hD1
  have hP : va_P D vwCl (wX0 d h (fun _ => 0, fun _ _ => 0)) H1 := hP
  have hD : va_D (fun q : Nat => s.heap.size ≤ q) (wX0 d h (fun _ => 0, fun _ _ => 0)) := hD
  refine W.widen (k := 16) (n := 288) (by omega) (by omega) ?_
  refine lv_astore_n (lv' := [(1, .ref (h 0)), (0, .ref b)]) hx hb dL_law_7 rfl hl (by decide) rfl (fun ls hl => ?_)
  have dv1 : ∀ j, j < 9 → defaultValue (tyX1 j) = vp_V [.int 0, .null, .null, .null, .null, .null, .null, .int 0, .null] j := fun j hj => by
    match j, hj with
    | 0, _ => rfl
    | 1, _ => rfl
    | 2, _ => rfl
    | 3, _ => rfl
    | 4, _ => rfl
    | 5, _ => rfl
    | 6, _ => rfl
    | 7, _ => rfl
    | 8, _ => rfl
    | k + 9, hj => exact absurd hj (by omega)
  refine va_new (ci := 1) (fs := [.int 0, .null, .null, .null, .null, .null, .null, .int 0, .null]) (C := RX1) (T := TX1) (N := 9) hx hb hts in_X1 tyX1 tyX1_ok hown (hts _ q193) (hts _ q194) (hts _ q20) hK hP hD hS hA rfl dv1 (Nat.le_of_ble_eq_true rfl) (Nat.le_of_ble_eq_true rfl) dL_law_8 (fun q1 H hP hD hS => ?_)
  have hP : va_P D vwCl (wX0 d h (fun _ => 0, fun _ _ => 0) ++ w0X1 q1) H := hP
  have hD : va_D (fun q : Nat => s.heap.size ≤ q) (wX0 d h (fun _ => 0, fun _ _ => 0) ++ w0X1 q1) := hD
  refine W.widen (k := 17) (n := 297) (by omega) (by omega) ?_
  refine lv_dup hx hb dL_law_11 rfl ?_
  have hPc := hP.sub (ws' := w0X1 q1) [16] rfl
  have hDc := hD.sub (ws' := w0X1 q1) [16] (by decide) rfl
  have hFc := va_free (wc := w0X1 q1) hD hS hA [16] rfl
  refine va_callv (va_runI (As := []) (rest := [.ref q1]) ⟨hx, hb, hml, hown, hts⟩ (mX1_init l D q1 H.size) (cwI 0 hts (lw_meth q197) rfl rfl rfl (hts _ q20) (hts _ q195) (hts _ q196) rfl (by decide +kernel) ⟨Nat.le_of_ble_eq_true rfl, Nat.le_of_ble_eq_true rfl⟩) ⟨fun a U g mk q => by obtain ⟨q0, q1, qP, qK, qD⟩ := q; exact ⟨q0, q1, qP, va_K.moved (u := U) (U := U.calling g mk a) (Vm.Alike.refl U.vm) qK, qD⟩, fun U hU hW => ⟨rfl, by rw [hU], by rw [hU]; exact hPc, va_K.moved hW.alike hK, va_D.weaken hDc (fun _ _ _ _ => trivial)⟩⟩ rfl rfl hl.1 rfl (lv_room (Nat.le_of_ble_eq_true rfl)) dL_law_12 ⟨Nat.le_of_ble_eq_true rfl, Nat.le_of_ble_eq_true rfl⟩) hS (fun q _ h => hFc q h) hFc (fun u t H1 locs ht hvm hw hB hz1 hk1 hS => ?_)
  obtain ⟨d1, h1⟩ := u
  obtain ⟨e0, hP1, hK1, hD1⟩ := hB
  rw [ht] at hP1
  have e0 : h1 0 = q1 := e0
  subst e0
  have hK1 : va_K D vwCl (tX1 d1) s := va_K.moved hvm.symm hK1
  obtain ⟨hP, hD⟩ := va_join (wr := wX0 d h (fun _ => 0, fun _ _ => 0)) (w1 := wX1 d1 h1 (fun _ => 0, fun _ _ => 0)) hP hD [16] [0, 1, 2, 3, 4, 5, 6, 7, 8, 9, 10, 11, 12, 13, 14, 15] rfl rfl (by decide) (by decide) hk1 hFc hP1 hD1
  refine W.widen (k := 24) (n := 415) (by omega) (by omega) ?_
  refine lv_astore_n (lv' := [(2, .ref (h1 0)), (1, .ref (h 0)), (0, .ref b)]) hx hb dL_law_15 rfl hl (by decide) rfl (fun ls hl => ?_)
  refine lv_iconst (v := nI 0) hx hb dL_law_16 (by decide) ?_
  refine lv_istore_n (lv' := [(3, .int (nI 0)), (2, .ref (h1 0)), (1, .ref (h 0)), (0, .ref b)]) hx hb dL_law_17 rfl hl (by decide) rfl (fun ls hl => ?_)
  exact law_loop hL hr hlocks hX hbl ⟨hx, hb, hml, hown, hts, hK0, hK1, hA⟩ (L + 1) 0 (fun _ => 0, fun _ _ => 0) (fun _ => 0, fun _ _ => 0) _ _ ls (by omega) (by omega) ⟨0, li_0⟩ ⟨hP, hD, hS⟩ hl
end
section
set_option maxRecDepth 100000
set_option maxHeartbeats 4000000 in
theorem lw_walk (l : Launch) (b : Addr) (xs : List Int32) : MetFree l x (headSpec (Jvm.Cond.code x code maxLocals ret :: tables_1) room_1) (lw_P b xs) (fun _ _ _ _ _ => True) lw_Q := by
  refine MetFree.of_bodyS (code := code) (maxLocals := maxLocals) (ret := ret) (by decide) ?_ ?_
  · intro args s m h hn
    obtain ⟨meth, c, h1, h2, h3, h4, h5, h6, -, -⟩ := Cond.code_spec hn (atoms_spec (ws := Jvm.Cond.code x code maxLocals ret :: tables_1) h _ List.mem_cons_self)
    exact ⟨meth, c, h1, h2, h3, h4, h5, h6⟩
  · intro p e s m args below meth c s₁ B hml0 hP _
    obtain ⟨rfl, hx, hbd, hgv⟩ := hP
    obtain ⟨scr, harrAt, hlist, hof, hsmall⟩ := hx
    obtain ⟨hcb, hkn, -, -⟩ := State.arrayAt?_spec harrAt
    have hown : s.vm.findClass R_law = some m.cls := findClass_of_methodNamed B.named
    have hts0 : ∀ c ∈ (Jvm.Cond.code x code maxLocals ret :: tables_1), c.before #[Value.ref b] s = true := atoms_spec (ws := Jvm.Cond.code x code maxLocals ret :: tables_1) B.pre
    have hts : ∀ w ∈ lw_tbl, w.before #[Value.ref b] s = true := k2_hts_sels lw_privs (fun w hw => hts0 w (List.mem_cons_of_mem _ hw)) lw_privs_ok
    have hml : c.maxLocals = 4 := B.maxLocals_eq (hts0 _ List.mem_cons_self)
    have X₀ : Stand p l e room_1 s m #[Value.ref b] below meth c s₁ [] 0 0 := Stand.of_body B
    have hh0 : s₁.heap = s.heap := by rw [B.state]; rfl
    have hsz : scr.slots.size = xs.length := by rw [← Array.length_toList, hlist, List.length_map]
    have hval : ∀ j : Nat, j < xs.length → scr.slots[j]? = some (.int (xs.getD j 0)) := fun j hj => by
      rw [← Array.getElem?_toList, hlist]
      simp [hj]
    have hbl : b < s.heap.size := (Array.getElem?_eq_some_iff.mp hcb).1
    have hX : va_X b xs.length (fun j => xs.getD j 0) s s.heap := ⟨scr, hcb, hof, hkn, hsz, hval⟩
    have K : W p l e room_1 s m #[Value.ref b] below meth c s₁.heap [] 0 0 (lw_Z below #[Value.ref b] s) (entryFrame m ([Value.ref b] : List Value).toArray 4) := by
      rw [hh0]
      exact whole_start l hbd ⟨B.exec, B.bytes, B.returns, hml, hown, hts, hX, hbl, B.notSynchronized, hgv⟩
    obtain ⟨t, a1, o, b1, b2, b3⟩ := K s₁ rfl X₀
    exact ⟨t, o, a1, b1, b2, b3⟩
theorem lw_pre_spec {args : Array Value} {s : State} (h : (Jvm.Cond.and given_1 narrow_1).before args s = true) (hr : rest_1_c.before args s = true) : ∃ (b : Addr) (xs : List Int32), lw_P b xs args s := by
  have hs := flat_of_before _ h
  have hq := flat_of_before _ hr
  have hc : (Cond.count 1).before args s = true := hs _ (by decide +kernel)
  have harr : (Cond.arrayOf (.arg 0) .int).before args s = true := hs _ (by decide +kernel)
  have hle : (Cond.le (.length (.arg 0)) (.int 320)).before args s = true := hs _ (by decide +kernel)
  have hlen : (Cond.isInt (.length (.arg 0))).before args s = true := hq _ (by decide +kernel)
  have hall : (Cond.all (.arg 0) (.isInt (.elem (.arg 0) (.index 0)))).before args s = true := hq _ (by decide +kernel)
  obtain ⟨b, xs, hb, hx⟩ := State.ints_of_pre rfl harr hlen hall
  have hsm : xs.length < 2 ^ 31 := hx.choose_spec.2.2.2
  have hev : (Term.length (.arg 0)).eval args s none [] s = some (.int xs.length.toInt32) := hx.length_eval hb
  have hv := Cond.le_ints hev (show (Term.int 320).eval args s none [] s = some (.int 320) from rfl)
  have hd : xs.length.toInt32 ≤ 320 := by
    simpa [Cond.before, Cond.holds, hv] using hle
  have hN : xs.length ≤ 320 := (Int32.ofNat_le_ofNat hsm (by decide)).mp (show Int32.ofNat xs.length ≤ Int32.ofNat 320 from hd)
  exact ⟨b, xs, Cond.one_arg hc (show args[0]? = some (.ref b) from hb), hx, hN, h⟩
theorem lw_comes (l : Launch) : Comes l x (Jvm.Cond.code x code maxLocals ret :: tables_1) room_1 (fun tb e args s => Calls_1 tb e args s ∧ rest_1 tb e args s ∧ Pre_1 tb e args s)
    (fun _ _ args s o t => lw_Q args s o t) := by
  intro p e ha hc hk s m args below hf hfit hheap happ hpre
  obtain ⟨b, xs, hP⟩ := lw_pre_spec hpre.2.2 hpre.2.1
  obtain ⟨k, o, h1, h2, h3, hQ⟩ := lw_walk l b xs p e ha hc hk s m args below hf ((Spec.applies_iff_loose hf).mp happ).1 hP trivial
  exact ⟨k, o, h1, h2, h3, hQ⟩
theorem lw_frame {s t : State} {o : Outcome} {args : Array Value} (h : Framed s o t [] 600000 7290000) :
    Framed s o t (fieldLocs frame_1_writes args s ++ arrayLocs frame_1_arrays args s ++ staticLocs frame_1_statics s) 600000 7290000 := h
theorem lw_limb (L : Cond) (hL : ∀ (args : Array Value) (s t : State), L.after args s (.returned (some (.int 1))) t = true) :
    ArmFor flags0 classFile x code maxLocals ret World_1 tables_1 room_1 Calls_1 rest_1 Pre_1
      (fun tb e a s o t => postC L tb e a s o t ∧ Framed s o t (fieldLocs frame_1_writes a s ++ arrayLocs frame_1_arrays a s ++ staticLocs frame_1_statics s) 600000 7290000) := by
  intro l _ _ _ p e ha hc hk s m args below hf hfit hheap happ hpre
  obtain ⟨k, o, h1, h2, h3, rfl, hF⟩ := lw_comes l p e ha hc hk s m args below hf hfit hheap happ hpre
  exact ⟨k, _, h1, h2, h3, hL args s _, lw_frame hF⟩
theorem i_vc : Claimed_1_1 ∧ Claimed_1_2 := ⟨lw_limb limb_1_1 (fun args s t => by simp [limb_1_1, Cond.after, Cond.holds, Cond.value]), lw_limb limb_1_2 (fun args s t => Cond.after_iff.mpr (by
  first | (rw [show limb_1_2 = Cond.eq .result (.int 1) from rfl, Cond.eq_ints (x := 1) (y := 1) rfl rfl]; simp; done) | (simp [limb_1_2, Cond.value, Term.eval]; done)))⟩
end
