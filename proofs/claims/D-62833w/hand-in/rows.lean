section
-- ===== PART A: goes FIRST, ahead of the names: the tables' words, and 'selects' of the private methods out of them =====
/-- a private method of a class that the tables say can be made, by its rows of tables_1 -/
def lw_okq (q : MethodName × Nat) : Prop := (q.1.cls ≠ "java/lang/invoke/MethodHandle" ∧ q.1.cls ≠ "java/lang/invoke/VarHandle") ∧ Cond.instantiable q.1.cls q.2 ∈ tables_1 ∧ Cond.privateMethod q.1 ∈ tables_1 ∧ Cond.instanceMethod q.1 ∈ tables_1
set_option maxRecDepth 100000
theorem lw_t1 {w : Cond} (h : w ∈ tables_1_1) : w ∈ tables_1 := List.mem_append_left _ h
theorem lw_t2 {w : Cond} (h : w ∈ tables_1_2) : w ∈ tables_1 := List.mem_append_right _ h
theorem lw_p0 : lw_okq (⟨"GllRecogniser", "isRule", "(I)Z"⟩, 12) := ⟨⟨by decide +kernel, by decide +kernel⟩, lw_t1 (List.mem_of_getElem? (i := 4) rfl), lw_t1 (List.mem_of_getElem? (i := 65) rfl), lw_t1 (List.mem_of_getElem? (i := 66) rfl)⟩
theorem lw_p1 : lw_okq (⟨"GllRecogniser", "endsOf", "(II)I"⟩, 12) := ⟨⟨by decide +kernel, by decide +kernel⟩, lw_t1 (List.mem_of_getElem? (i := 4) rfl), lw_t1 (List.mem_of_getElem? (i := 97) rfl), lw_t1 (List.mem_of_getElem? (i := 98) rfl)⟩
theorem lw_p2 : lw_okq (⟨"GllRecogniser", "start", "()V"⟩, 12) := ⟨⟨by decide +kernel, by decide +kernel⟩, lw_t1 (List.mem_of_getElem? (i := 4) rfl), lw_t1 (List.mem_of_getElem? (i := 101) rfl), lw_t1 (List.mem_of_getElem? (i := 102) rfl)⟩
theorem lw_p3 : lw_okq (⟨"GllRecogniser", "call", "(I)V"⟩, 12) := ⟨⟨by decide +kernel, by decide +kernel⟩, lw_t1 (List.mem_of_getElem? (i := 4) rfl), lw_t1 (List.mem_of_getElem? (i := 105) rfl), lw_t1 (List.mem_of_getElem? (i := 106) rfl)⟩
theorem lw_p4 : lw_okq (⟨"GllRecogniser", "add", "(III)V"⟩, 12) := ⟨⟨by decide +kernel, by decide +kernel⟩, lw_t1 (List.mem_of_getElem? (i := 4) rfl), lw_t1 (List.mem_of_getElem? (i := 109) rfl), lw_t1 (List.mem_of_getElem? (i := 110) rfl)⟩
theorem lw_p5 : lw_okq (⟨"GllRecogniser", "run", "()V"⟩, 12) := ⟨⟨by decide +kernel, by decide +kernel⟩, lw_t1 (List.mem_of_getElem? (i := 4) rfl), lw_t1 (List.mem_of_getElem? (i := 113) rfl), lw_t1 (List.mem_of_getElem? (i := 114) rfl)⟩
theorem lw_p6 : lw_okq (⟨"GllRecogniser", "handleWord", "(I)V"⟩, 12) := ⟨⟨by decide +kernel, by decide +kernel⟩, lw_t1 (List.mem_of_getElem? (i := 4) rfl), lw_t1 (List.mem_of_getElem? (i := 117) rfl), lw_t1 (List.mem_of_getElem? (i := 118) rfl)⟩
theorem lw_p7 : lw_okq (⟨"GllRecogniser", "handle", "(III)V"⟩, 12) := ⟨⟨by decide +kernel, by decide +kernel⟩, lw_t1 (List.mem_of_getElem? (i := 4) rfl), lw_t1 (List.mem_of_getElem? (i := 121) rfl), lw_t1 (List.mem_of_getElem? (i := 122) rfl)⟩
theorem lw_p8 : lw_okq (⟨"GllRecogniser", "finish", "(II)V"⟩, 12) := ⟨⟨by decide +kernel, by decide +kernel⟩, lw_t1 (List.mem_of_getElem? (i := 4) rfl), lw_t1 (List.mem_of_getElem? (i := 125) rfl), lw_t1 (List.mem_of_getElem? (i := 126) rfl)⟩
theorem lw_p9 : lw_okq (⟨"GllRecogniser", "attend", "(III)V"⟩, 12) := ⟨⟨by decide +kernel, by decide +kernel⟩, lw_t1 (List.mem_of_getElem? (i := 4) rfl), lw_t1 (List.mem_of_getElem? (i := 129) rfl), lw_t1 (List.mem_of_getElem? (i := 130) rfl)⟩
theorem lw_p10 : lw_okq (⟨"GllRecogniser", "isStretch", "(II)Z"⟩, 12) := ⟨⟨by decide +kernel, by decide +kernel⟩, lw_t1 (List.mem_of_getElem? (i := 4) rfl), lw_t1 (List.mem_of_getElem? (i := 140) rfl), lw_t1 (List.mem_of_getElem? (i := 141) rfl)⟩
theorem lw_p11 : lw_okq (⟨"GllRecogniser", "doesFit", "(III)Z"⟩, 12) := ⟨⟨by decide +kernel, by decide +kernel⟩, lw_t1 (List.mem_of_getElem? (i := 4) rfl), lw_t1 (List.mem_of_getElem? (i := 152) rfl), lw_t1 (List.mem_of_getElem? (i := 153) rfl)⟩
theorem lw_p12 : lw_okq (⟨"GllRecogniserModel", "badRow", "(I)Z"⟩, 6) := ⟨⟨by decide +kernel, by decide +kernel⟩, lw_t1 (List.mem_of_getElem? (i := 176) rfl), lw_t1 (List.mem_of_getElem? (i := 205) rfl), lw_t1 (List.mem_of_getElem? (i := 206) rfl)⟩
theorem lw_p13 : lw_okq (⟨"GllRecogniserModel", "badRule", "(I)Z"⟩, 6) := ⟨⟨by decide +kernel, by decide +kernel⟩, lw_t1 (List.mem_of_getElem? (i := 176) rfl), lw_t1 (List.mem_of_getElem? (i := 213) rfl), lw_t1 (List.mem_of_getElem? (i := 214) rfl)⟩
theorem lw_p14 : lw_okq (⟨"GllRecogniserModel", "work", "()V"⟩, 6) := ⟨⟨by decide +kernel, by decide +kernel⟩, lw_t1 (List.mem_of_getElem? (i := 176) rfl), lw_t2 (List.mem_of_getElem? (i := 5) rfl), lw_t2 (List.mem_of_getElem? (i := 6) rfl)⟩
theorem lw_p15 : lw_okq (⟨"GllRecogniserModel", "fillAll", "()Z"⟩, 6) := ⟨⟨by decide +kernel, by decide +kernel⟩, lw_t1 (List.mem_of_getElem? (i := 176) rfl), lw_t2 (List.mem_of_getElem? (i := 9) rfl), lw_t2 (List.mem_of_getElem? (i := 10) rfl)⟩
def lw_privs_1 : List (MethodName × Nat) := [(⟨"GllRecogniser", "isRule", "(I)Z"⟩, 12), (⟨"GllRecogniser", "endsOf", "(II)I"⟩, 12), (⟨"GllRecogniser", "start", "()V"⟩, 12), (⟨"GllRecogniser", "call", "(I)V"⟩, 12), (⟨"GllRecogniser", "add", "(III)V"⟩, 12), (⟨"GllRecogniser", "run", "()V"⟩, 12), (⟨"GllRecogniser", "handleWord", "(I)V"⟩, 12), (⟨"GllRecogniser", "handle", "(III)V"⟩, 12), (⟨"GllRecogniser", "finish", "(II)V"⟩, 12), (⟨"GllRecogniser", "attend", "(III)V"⟩, 12), (⟨"GllRecogniser", "isStretch", "(II)Z"⟩, 12), (⟨"GllRecogniser", "doesFit", "(III)Z"⟩, 12), (⟨"GllRecogniserModel", "badRow", "(I)Z"⟩, 6), (⟨"GllRecogniserModel", "badRule", "(I)Z"⟩, 6), (⟨"GllRecogniserModel", "work", "()V"⟩, 6), (⟨"GllRecogniserModel", "fillAll", "()Z"⟩, 6)]
theorem lw_r1 : ∀ q ∈ lw_privs_1, lw_okq q := List.forall_mem_cons.mpr ⟨lw_p0, List.forall_mem_cons.mpr ⟨lw_p1, List.forall_mem_cons.mpr ⟨lw_p2, List.forall_mem_cons.mpr ⟨lw_p3, List.forall_mem_cons.mpr ⟨lw_p4, List.forall_mem_cons.mpr ⟨lw_p5, List.forall_mem_cons.mpr ⟨lw_p6, List.forall_mem_cons.mpr ⟨lw_p7, List.forall_mem_cons.mpr ⟨lw_p8, List.forall_mem_cons.mpr ⟨lw_p9, List.forall_mem_cons.mpr ⟨lw_p10, List.forall_mem_cons.mpr ⟨lw_p11, List.forall_mem_cons.mpr ⟨lw_p12, List.forall_mem_cons.mpr ⟨lw_p13, List.forall_mem_cons.mpr ⟨lw_p14, List.forall_mem_cons.mpr ⟨lw_p15, fun _ h => absurd h List.not_mem_nil⟩⟩⟩⟩⟩⟩⟩⟩⟩⟩⟩⟩⟩⟩⟩⟩
theorem lw_p16 : lw_okq (⟨"GllRecogniserModel", "fill", "(I)Z"⟩, 6) := ⟨⟨by decide +kernel, by decide +kernel⟩, lw_t1 (List.mem_of_getElem? (i := 176) rfl), lw_t2 (List.mem_of_getElem? (i := 13) rfl), lw_t2 (List.mem_of_getElem? (i := 14) rfl)⟩
theorem lw_p17 : lw_okq (⟨"GllRecogniserModel", "rowFits", "(III)Z"⟩, 6) := ⟨⟨by decide +kernel, by decide +kernel⟩, lw_t1 (List.mem_of_getElem? (i := 176) rfl), lw_t2 (List.mem_of_getElem? (i := 17) rfl), lw_t2 (List.mem_of_getElem? (i := 18) rfl)⟩
theorem lw_p18 : lw_okq (⟨"GllRecogniserModel", "signFits", "(III)Z"⟩, 6) := ⟨⟨by decide +kernel, by decide +kernel⟩, lw_t1 (List.mem_of_getElem? (i := 176) rfl), lw_t2 (List.mem_of_getElem? (i := 21) rfl), lw_t2 (List.mem_of_getElem? (i := 22) rfl)⟩
theorem lw_p19 : lw_okq (⟨"GllRecogniserModel", "twoFit", "(IIII)Z"⟩, 6) := ⟨⟨by decide +kernel, by decide +kernel⟩, lw_t1 (List.mem_of_getElem? (i := 176) rfl), lw_t2 (List.mem_of_getElem? (i := 25) rfl), lw_t2 (List.mem_of_getElem? (i := 26) rfl)⟩
theorem lw_p20 : lw_okq (⟨"GllRecogniserModel", "badSign", "(I)Z"⟩, 6) := ⟨⟨by decide +kernel, by decide +kernel⟩, lw_t1 (List.mem_of_getElem? (i := 176) rfl), lw_t2 (List.mem_of_getElem? (i := 33) rfl), lw_t2 (List.mem_of_getElem? (i := 34) rfl)⟩
theorem lw_p21 : lw_okq (⟨"GllRecogniserModel", "badStretch", "(II)Z"⟩, 6) := ⟨⟨by decide +kernel, by decide +kernel⟩, lw_t1 (List.mem_of_getElem? (i := 176) rfl), lw_t2 (List.mem_of_getElem? (i := 37) rfl), lw_t2 (List.mem_of_getElem? (i := 38) rfl)⟩
def lw_privs_2 : List (MethodName × Nat) := [(⟨"GllRecogniserModel", "fill", "(I)Z"⟩, 6), (⟨"GllRecogniserModel", "rowFits", "(III)Z"⟩, 6), (⟨"GllRecogniserModel", "signFits", "(III)Z"⟩, 6), (⟨"GllRecogniserModel", "twoFit", "(IIII)Z"⟩, 6), (⟨"GllRecogniserModel", "badSign", "(I)Z"⟩, 6), (⟨"GllRecogniserModel", "badStretch", "(II)Z"⟩, 6)]
theorem lw_r2 : ∀ q ∈ lw_privs_2, lw_okq q := List.forall_mem_cons.mpr ⟨lw_p16, List.forall_mem_cons.mpr ⟨lw_p17, List.forall_mem_cons.mpr ⟨lw_p18, List.forall_mem_cons.mpr ⟨lw_p19, List.forall_mem_cons.mpr ⟨lw_p20, List.forall_mem_cons.mpr ⟨lw_p21, fun _ h => absurd h List.not_mem_nil⟩⟩⟩⟩⟩⟩
def lw_privs : List (MethodName × Nat) := lw_privs_1 ++ (lw_privs_2)
def lw_tbl : List Cond := k2_sels lw_privs ++ tables_1
theorem lw_privs_ok : ∀ q ∈ lw_privs, lw_okq q := by
  show ∀ q ∈ lw_privs_1 ++ (lw_privs_2), lw_okq q
  exact List.forall_mem_append.mpr ⟨lw_r1, lw_r2⟩
-- ===== ONE list of words for every method: the tables' words that hold all through a run =====
def lw_all : List Cond := lw_tbl.filter goodWord
/-- a word of the tables by its place: claim/WORDS.tsv -/
theorem lw_w {w : Cond} (i : Nat) (h : lw_tbl[i]? = some w) (g : goodWord w = true) : w ∈ lw_all := List.mem_filter.mpr ⟨List.mem_of_getElem? h, g⟩
theorem lw_all_tbl {w : Cond} (h : w ∈ lw_all) : w ∈ lw_tbl := (List.mem_filter.mp h).1
theorem lw_self : GoodIn lw_all lw_all := fun w h => ⟨h, good_of_word (List.mem_filter.mp h).2⟩
/-- a class's field words, by their places -/
theorem lw_in (ws : List Cond) (ps : List Nat) (hp : ws = ps.filterMap (fun i => lw_tbl[i]?)) (hg : ws.all goodWord = true) : ∀ w ∈ ws, w ∈ lw_all := by
  intro w h
  have h1 := List.all_eq_true.mp hg w h
  rw [hp] at h
  obtain ⟨i, -, hi⟩ := List.mem_filterMap.mp h
  exact lw_w i hi h1
/-- the words of a contract for the method y with code b, L locals, answer r -/
abbrev ws_ (y : MethodName) (b : ByteArray) (L : Nat) (r : Option FieldType) : List Cond := Cond.code y b L r :: lw_all
theorem lw_meth {y : MethodName} {b : ByteArray} {L : Nat} {r : Option FieldType} (h : Cond.code y b L r ∈ lw_all) : GoodIn lw_all (ws_ y b L r) := by
  intro w hw
  rcases List.mem_cons.mp hw with e | e
  · rw [e]
    exact lw_self _ h
  · exact lw_self _ e
theorem lw_app {a c : List Cond} (ha : ∀ w ∈ a, w ∈ lw_all) (hc : GoodIn lw_all c) : GoodIn lw_all (a ++ c) := by
  intro w hw
  rcases List.mem_append.mp hw with e | e
  · exact lw_self w (ha w e)
  · exact hc w e
/-- what a call through an object asks: cwV n hts (lw_V ..) -/
theorem lw_V {own : String} {idx : Nat} {C : String} {y : MethodName} {b : ByteArray} {L : Nat} {r : Option FieldType} (h1 : Cond.methodLink own idx y ∈ lw_all) (h2 : Cond.instanceMethod y ∈ lw_all) (h3 : Cond.selects C y y ∈ lw_all) (h4 : Cond.initialized C ∈ lw_all) (h5 : Cond.code y b L r ∈ lw_all) : GoodIn lw_all (wsV own idx C y (ws_ y b L r)) := by
  refine lw_app ?_ (lw_meth h5)
  intro w hw
  simp only [List.mem_cons, List.not_mem_nil, or_false] at hw
  rcases hw with e | e | e | e
  · rw [e]; exact h1
  · rw [e]; exact h2
  · rw [e]; exact h3
  · rw [e]; exact h4
/-- what a static call asks: va_cwS n hts (lw_S ..) -/
theorem lw_S {own : String} {idx : Nat} {y : MethodName} {b : ByteArray} {L : Nat} {r : Option FieldType} (h1 : Cond.methodLink own idx y ∈ lw_all) (h2 : Cond.static y ∈ lw_all) (h3 : Cond.initialized y.cls ∈ lw_all) (h4 : Cond.code y b L r ∈ lw_all) : GoodIn lw_all (va_wsS own idx y (ws_ y b L r)) := by
  refine lw_app ?_ (lw_meth h4)
  intro w hw
  simp only [List.mem_cons, List.not_mem_nil, or_false] at hw
  rcases hw with e | e | e
  · rw [e]; exact h1
  · rw [e]; exact h2
  · rw [e]; exact h3
/-- the words of a contract for a method WITH HANDLERS (hh: its table) -/
abbrev wsW_ (y : MethodName) (b : ByteArray) (L : Nat) (r : Option FieldType) (hh : List (Nat × Nat × Nat × Nat)) : List Cond := Cond.codeWith y b L r hh :: lw_all
theorem lw_methW {y : MethodName} {b : ByteArray} {L : Nat} {r : Option FieldType} {hh : List (Nat × Nat × Nat × Nat)} (h : Cond.codeWith y b L r hh ∈ lw_all) : GoodIn lw_all (wsW_ y b L r hh) := by
  intro w hw
  rcases List.mem_cons.mp hw with e | e
  · rw [e]
    exact lw_self _ h
  · exact lw_self _ e
/-- any list of words by their places (lw_in), good -/
theorem lw_good {ws : List Cond} (h : ∀ w ∈ ws, w ∈ lw_all) : GoodIn lw_all ws := fun w hw => lw_self w (h w hw)
/-- what a call of a method with handlers asks: vx_cwVW n hts (lw_VW ..), vx_cwSW n hts (lw_SW ..) -/
theorem lw_VW {own : String} {idx : Nat} {C : String} {y : MethodName} {b : ByteArray} {L : Nat} {r : Option FieldType} {hh : List (Nat × Nat × Nat × Nat)} (h1 : Cond.methodLink own idx y ∈ lw_all) (h2 : Cond.instanceMethod y ∈ lw_all) (h3 : Cond.selects C y y ∈ lw_all) (h4 : Cond.initialized C ∈ lw_all) (h5 : Cond.codeWith y b L r hh ∈ lw_all) : GoodIn lw_all (wsV own idx C y (wsW_ y b L r hh)) := by
  refine lw_app ?_ (lw_methW h5)
  intro w hw
  simp only [List.mem_cons, List.not_mem_nil, or_false] at hw
  rcases hw with e | e | e | e
  · rw [e]; exact h1
  · rw [e]; exact h2
  · rw [e]; exact h3
  · rw [e]; exact h4
theorem lw_SW {own : String} {idx : Nat} {y : MethodName} {b : ByteArray} {L : Nat} {r : Option FieldType} {hh : List (Nat × Nat × Nat × Nat)} (h1 : Cond.methodLink own idx y ∈ lw_all) (h2 : Cond.static y ∈ lw_all) (h3 : Cond.initialized y.cls ∈ lw_all) (h4 : Cond.codeWith y b L r hh ∈ lw_all) : GoodIn lw_all (va_wsS own idx y (wsW_ y b L r hh)) := by
  refine lw_app ?_ (lw_methW h4)
  intro w hw
  simp only [List.mem_cons, List.not_mem_nil, or_false] at hw
  rcases hw with e | e | e
  · rw [e]; exact h1
  · rw [e]; exact h2
  · rw [e]; exact h3
/-- a word by its place in its run of the tables -/
theorem lw_at {r : List Cond} (hr : ∀ w ∈ r, w ∈ lw_tbl) {w : Cond} (i : Nat) (h : r[i]? = some w) : w ∈ lw_tbl := hr w (List.mem_of_getElem? h)
theorem lw_g {w : Cond} (h : w ∈ lw_tbl) (g : goodWord w = true) : w ∈ lw_all := List.mem_filter.mpr ⟨h, g⟩
theorem lw_ms : ∀ w ∈ k2_sels lw_privs, w ∈ lw_tbl := fun w h => show w ∈ k2_sels lw_privs ++ tables_1 from List.mem_append_left _ h
theorem lw_m1 : ∀ w ∈ tables_1_1, w ∈ lw_tbl := fun w h => show w ∈ k2_sels lw_privs ++ tables_1 from List.mem_append_right (k2_sels lw_privs) (show w ∈ tables_1 from List.mem_append_left _ h)
theorem lw_m2 : ∀ w ∈ tables_1_2, w ∈ lw_tbl := fun w h => show w ∈ k2_sels lw_privs ++ tables_1 from List.mem_append_right (k2_sels lw_privs) (show w ∈ tables_1 from List.mem_append_right _ h)
theorem qs0 : (Cond.selects "GllRecogniser" ⟨"GllRecogniser", "isRule", "(I)Z"⟩ ⟨"GllRecogniser", "isRule", "(I)Z"⟩) ∈ lw_all := lw_g (lw_at lw_ms 0 rfl) rfl
theorem qs1 : (Cond.selects "GllRecogniser" ⟨"GllRecogniser", "endsOf", "(II)I"⟩ ⟨"GllRecogniser", "endsOf", "(II)I"⟩) ∈ lw_all := lw_g (lw_at lw_ms 1 rfl) rfl
theorem qs2 : (Cond.selects "GllRecogniser" ⟨"GllRecogniser", "start", "()V"⟩ ⟨"GllRecogniser", "start", "()V"⟩) ∈ lw_all := lw_g (lw_at lw_ms 2 rfl) rfl
theorem qs3 : (Cond.selects "GllRecogniser" ⟨"GllRecogniser", "call", "(I)V"⟩ ⟨"GllRecogniser", "call", "(I)V"⟩) ∈ lw_all := lw_g (lw_at lw_ms 3 rfl) rfl
theorem qs4 : (Cond.selects "GllRecogniser" ⟨"GllRecogniser", "add", "(III)V"⟩ ⟨"GllRecogniser", "add", "(III)V"⟩) ∈ lw_all := lw_g (lw_at lw_ms 4 rfl) rfl
theorem qs5 : (Cond.selects "GllRecogniser" ⟨"GllRecogniser", "run", "()V"⟩ ⟨"GllRecogniser", "run", "()V"⟩) ∈ lw_all := lw_g (lw_at lw_ms 5 rfl) rfl
theorem qs6 : (Cond.selects "GllRecogniser" ⟨"GllRecogniser", "handleWord", "(I)V"⟩ ⟨"GllRecogniser", "handleWord", "(I)V"⟩) ∈ lw_all := lw_g (lw_at lw_ms 6 rfl) rfl
theorem qs7 : (Cond.selects "GllRecogniser" ⟨"GllRecogniser", "handle", "(III)V"⟩ ⟨"GllRecogniser", "handle", "(III)V"⟩) ∈ lw_all := lw_g (lw_at lw_ms 7 rfl) rfl
theorem qs8 : (Cond.selects "GllRecogniser" ⟨"GllRecogniser", "finish", "(II)V"⟩ ⟨"GllRecogniser", "finish", "(II)V"⟩) ∈ lw_all := lw_g (lw_at lw_ms 8 rfl) rfl
theorem qs9 : (Cond.selects "GllRecogniser" ⟨"GllRecogniser", "attend", "(III)V"⟩ ⟨"GllRecogniser", "attend", "(III)V"⟩) ∈ lw_all := lw_g (lw_at lw_ms 9 rfl) rfl
theorem qs10 : (Cond.selects "GllRecogniser" ⟨"GllRecogniser", "isStretch", "(II)Z"⟩ ⟨"GllRecogniser", "isStretch", "(II)Z"⟩) ∈ lw_all := lw_g (lw_at lw_ms 10 rfl) rfl
theorem qs11 : (Cond.selects "GllRecogniser" ⟨"GllRecogniser", "doesFit", "(III)Z"⟩ ⟨"GllRecogniser", "doesFit", "(III)Z"⟩) ∈ lw_all := lw_g (lw_at lw_ms 11 rfl) rfl
theorem qs12 : (Cond.selects "GllRecogniserModel" ⟨"GllRecogniserModel", "badRow", "(I)Z"⟩ ⟨"GllRecogniserModel", "badRow", "(I)Z"⟩) ∈ lw_all := lw_g (lw_at lw_ms 12 rfl) rfl
theorem qs13 : (Cond.selects "GllRecogniserModel" ⟨"GllRecogniserModel", "badRule", "(I)Z"⟩ ⟨"GllRecogniserModel", "badRule", "(I)Z"⟩) ∈ lw_all := lw_g (lw_at lw_ms 13 rfl) rfl
theorem qs14 : (Cond.selects "GllRecogniserModel" ⟨"GllRecogniserModel", "work", "()V"⟩ ⟨"GllRecogniserModel", "work", "()V"⟩) ∈ lw_all := lw_g (lw_at lw_ms 14 rfl) rfl
theorem qs15 : (Cond.selects "GllRecogniserModel" ⟨"GllRecogniserModel", "fillAll", "()Z"⟩ ⟨"GllRecogniserModel", "fillAll", "()Z"⟩) ∈ lw_all := lw_g (lw_at lw_ms 15 rfl) rfl
theorem qs16 : (Cond.selects "GllRecogniserModel" ⟨"GllRecogniserModel", "fill", "(I)Z"⟩ ⟨"GllRecogniserModel", "fill", "(I)Z"⟩) ∈ lw_all := lw_g (lw_at lw_ms 16 rfl) rfl
theorem qs17 : (Cond.selects "GllRecogniserModel" ⟨"GllRecogniserModel", "rowFits", "(III)Z"⟩ ⟨"GllRecogniserModel", "rowFits", "(III)Z"⟩) ∈ lw_all := lw_g (lw_at lw_ms 17 rfl) rfl
theorem qs18 : (Cond.selects "GllRecogniserModel" ⟨"GllRecogniserModel", "signFits", "(III)Z"⟩ ⟨"GllRecogniserModel", "signFits", "(III)Z"⟩) ∈ lw_all := lw_g (lw_at lw_ms 18 rfl) rfl
theorem qs19 : (Cond.selects "GllRecogniserModel" ⟨"GllRecogniserModel", "twoFit", "(IIII)Z"⟩ ⟨"GllRecogniserModel", "twoFit", "(IIII)Z"⟩) ∈ lw_all := lw_g (lw_at lw_ms 19 rfl) rfl
theorem qs20 : (Cond.selects "GllRecogniserModel" ⟨"GllRecogniserModel", "badSign", "(I)Z"⟩ ⟨"GllRecogniserModel", "badSign", "(I)Z"⟩) ∈ lw_all := lw_g (lw_at lw_ms 20 rfl) rfl
theorem qs21 : (Cond.selects "GllRecogniserModel" ⟨"GllRecogniserModel", "badStretch", "(II)Z"⟩ ⟨"GllRecogniserModel", "badStretch", "(II)Z"⟩) ∈ lw_all := lw_g (lw_at lw_ms 21 rfl) rfl
end
section
/-! java/lang/Object -/
set_option maxRecDepth 100000
def RJ0 : String := "java/lang/Object"
abbrev cJ0_init : ByteArray := object_method_1_code
def yJ0_init : MethodName := ⟨RJ0, "<init>", "()V"⟩
theorem dJ0_init_0 : decode cJ0_init 0 = .ok (.return_, 1) := by decide +kernel
theorem q31 : (Jvm.Cond.instanceMethod ({ cls := "java/lang/Object", name := "<init>", desc := "()V" } : Jvm.MethodName)) ∈ lw_all := lw_g (lw_at lw_m1 9 rfl) rfl
theorem q32 : (Jvm.Cond.code ({ cls := "java/lang/Object", name := "<init>", desc := "()V" } : Jvm.MethodName) object_method_1_code (1 : Nat) (Option.none : Option Jvm.ClassFile.FieldType)) ∈ lw_all := lw_g (lw_at lw_m1 10 rfl) rfl
theorem q70 : (Jvm.Cond.arrayClass Jvm.ClassFile.FieldType.int) ∈ lw_all := lw_g (lw_at lw_m1 48 rfl) rfl
theorem q71 : (Jvm.Cond.arrayClass Jvm.ClassFile.FieldType.boolean) ∈ lw_all := lw_g (lw_at lw_m1 49 rfl) rfl
theorem q22 : (Jvm.Cond.initialized "GllRecogniserLaw") ∈ lw_all := lw_g (lw_at lw_m1 0 rfl) rfl
theorem q25 : (Jvm.Cond.classLink "GllRecogniserLaw" (7 : Nat) "GllRecogniser") ∈ lw_all := lw_g (lw_at lw_m1 3 rfl) rfl
theorem q27 : (Jvm.Cond.methodLink "GllRecogniserLaw" (9 : Nat) ({ cls := "GllRecogniser", name := "<init>", desc := "()V" } : Jvm.MethodName)) ∈ lw_all := lw_g (lw_at lw_m1 5 rfl) rfl
theorem q72 : (Jvm.Cond.methodLink "GllRecogniserLaw" (13 : Nat) ({ cls := "GllRecogniser", name := "rule", desc := "(II)I" } : Jvm.MethodName)) ∈ lw_all := lw_g (lw_at lw_m1 50 rfl) rfl
theorem q82 : (Jvm.Cond.methodLink "GllRecogniserLaw" (18 : Nat) ({ cls := "GllRecogniser", name := "drop", desc := "(I)I" } : Jvm.MethodName)) ∈ lw_all := lw_g (lw_at lw_m1 60 rfl) rfl
theorem q90 : (Jvm.Cond.methodLink "GllRecogniserLaw" (23 : Nat) ({ cls := "GllRecogniser", name := "clear", desc := "()I" } : Jvm.MethodName)) ∈ lw_all := lw_g (lw_at lw_m1 68 rfl) rfl
theorem q94 : (Jvm.Cond.methodLink "GllRecogniserLaw" (28 : Nat) ({ cls := "GllRecogniser", name := "rules", desc := "()I" } : Jvm.MethodName)) ∈ lw_all := lw_g (lw_at lw_m1 72 rfl) rfl
theorem q98 : (Jvm.Cond.methodLink "GllRecogniserLaw" (32 : Nat) ({ cls := "GllRecogniser", name := "push", desc := "(I)I" } : Jvm.MethodName)) ∈ lw_all := lw_g (lw_at lw_m1 76 rfl) rfl
theorem q102 : (Jvm.Cond.methodLink "GllRecogniserLaw" (36 : Nat) ({ cls := "GllRecogniser", name := "pop", desc := "()I" } : Jvm.MethodName)) ∈ lw_all := lw_g (lw_at lw_m1 80 rfl) rfl
theorem q106 : (Jvm.Cond.methodLink "GllRecogniserLaw" (40 : Nat) ({ cls := "GllRecogniser", name := "write", desc := "(II)I" } : Jvm.MethodName)) ∈ lw_all := lw_g (lw_at lw_m1 84 rfl) rfl
theorem q110 : (Jvm.Cond.methodLink "GllRecogniserLaw" (44 : Nat) ({ cls := "GllRecogniser", name := "length", desc := "()I" } : Jvm.MethodName)) ∈ lw_all := lw_g (lw_at lw_m1 88 rfl) rfl
theorem q114 : (Jvm.Cond.methodLink "GllRecogniserLaw" (48 : Nat) ({ cls := "GllRecogniser", name := "accepts", desc := "()I" } : Jvm.MethodName)) ∈ lw_all := lw_g (lw_at lw_m1 92 rfl) rfl
theorem q154 : (Jvm.Cond.methodLink "GllRecogniserLaw" (52 : Nat) ({ cls := "GllRecogniser", name := "fits", desc := "(III)I" } : Jvm.MethodName)) ∈ lw_all := lw_g (lw_at lw_m1 132 rfl) rfl
theorem q165 : (Jvm.Cond.methodLink "GllRecogniserLaw" (57 : Nat) ({ cls := "GllRecogniser", name := "ends", desc := "(II)I" } : Jvm.MethodName)) ∈ lw_all := lw_g (lw_at lw_m1 143 rfl) rfl
theorem q169 : (Jvm.Cond.methodLink "GllRecogniserLaw" (61 : Nat) ({ cls := "GllRecogniser", name := "ruleFits", desc := "(III)I" } : Jvm.MethodName)) ∈ lw_all := lw_g (lw_at lw_m1 147 rfl) rfl
theorem q177 : (Jvm.Cond.methodLink "GllRecogniserLaw" (65 : Nat) ({ cls := "GllRecogniser", name := "stretches", desc := "(I)I" } : Jvm.MethodName)) ∈ lw_all := lw_g (lw_at lw_m1 155 rfl) rfl
theorem q181 : (Jvm.Cond.methodLink "GllRecogniserLaw" (69 : Nat) ({ cls := "GllRecogniser", name := "longest", desc := "(I)I" } : Jvm.MethodName)) ∈ lw_all := lw_g (lw_at lw_m1 159 rfl) rfl
theorem q185 : (Jvm.Cond.methodLink "GllRecogniserLaw" (73 : Nat) ({ cls := "GllRecogniser", name := "empty", desc := "(I)I" } : Jvm.MethodName)) ∈ lw_all := lw_g (lw_at lw_m1 163 rfl) rfl
theorem q189 : (Jvm.Cond.methodLink "GllRecogniserLaw" (77 : Nat) ({ cls := "GllRecogniser", name := "ways", desc := "(III)I" } : Jvm.MethodName)) ∈ lw_all := lw_g (lw_at lw_m1 167 rfl) rfl
theorem q193 : (Jvm.Cond.methodLink "GllRecogniserLaw" (81 : Nat) ({ cls := "GllRecogniser", name := "nextLetter", desc := "()I" } : Jvm.MethodName)) ∈ lw_all := lw_g (lw_at lw_m1 171 rfl) rfl
theorem q197 : (Jvm.Cond.classLink "GllRecogniserLaw" (10 : Nat) "GllRecogniserModel") ∈ lw_all := lw_g (lw_at lw_m1 175 rfl) rfl
theorem q199 : (Jvm.Cond.methodLink "GllRecogniserLaw" (12 : Nat) ({ cls := "GllRecogniserModel", name := "<init>", desc := "()V" } : Jvm.MethodName)) ∈ lw_all := lw_g (lw_at lw_m1 177 rfl) rfl
theorem q222 : (Jvm.Cond.methodLink "GllRecogniserLaw" (17 : Nat) ({ cls := "GllRecogniserModel", name := "rule", desc := "(II)I" } : Jvm.MethodName)) ∈ lw_all := lw_g (lw_at lw_m1 200 rfl) rfl
theorem q230 : (Jvm.Cond.methodLink "GllRecogniserLaw" (22 : Nat) ({ cls := "GllRecogniserModel", name := "drop", desc := "(I)I" } : Jvm.MethodName)) ∈ lw_all := lw_g (lw_at lw_m1 208 rfl) rfl
theorem q238 : (Jvm.Cond.methodLink "GllRecogniserLaw" (27 : Nat) ({ cls := "GllRecogniserModel", name := "clear", desc := "()I" } : Jvm.MethodName)) ∈ lw_all := lw_g (lw_at lw_m1 216 rfl) rfl
theorem q242 : (Jvm.Cond.methodLink "GllRecogniserLaw" (31 : Nat) ({ cls := "GllRecogniserModel", name := "rules", desc := "()I" } : Jvm.MethodName)) ∈ lw_all := lw_g (lw_at lw_m1 220 rfl) rfl
theorem q246 : (Jvm.Cond.methodLink "GllRecogniserLaw" (35 : Nat) ({ cls := "GllRecogniserModel", name := "push", desc := "(I)I" } : Jvm.MethodName)) ∈ lw_all := lw_g (lw_at lw_m1 224 rfl) rfl
theorem q250 : (Jvm.Cond.methodLink "GllRecogniserLaw" (39 : Nat) ({ cls := "GllRecogniserModel", name := "pop", desc := "()I" } : Jvm.MethodName)) ∈ lw_all := lw_g (lw_at lw_m1 228 rfl) rfl
theorem q254 : (Jvm.Cond.methodLink "GllRecogniserLaw" (43 : Nat) ({ cls := "GllRecogniserModel", name := "write", desc := "(II)I" } : Jvm.MethodName)) ∈ lw_all := lw_g (lw_at lw_m1 232 rfl) rfl
theorem q258 : (Jvm.Cond.methodLink "GllRecogniserLaw" (47 : Nat) ({ cls := "GllRecogniserModel", name := "length", desc := "()I" } : Jvm.MethodName)) ∈ lw_all := lw_g (lw_at lw_m1 236 rfl) rfl
theorem q262 : (Jvm.Cond.methodLink "GllRecogniserLaw" (51 : Nat) ({ cls := "GllRecogniserModel", name := "accepts", desc := "()I" } : Jvm.MethodName)) ∈ lw_all := lw_g (lw_at lw_m2 0 rfl) rfl
theorem q290 : (Jvm.Cond.methodLink "GllRecogniserLaw" (56 : Nat) ({ cls := "GllRecogniserModel", name := "fits", desc := "(III)I" } : Jvm.MethodName)) ∈ lw_all := lw_g (lw_at lw_m2 28 rfl) rfl
theorem q302 : (Jvm.Cond.methodLink "GllRecogniserLaw" (60 : Nat) ({ cls := "GllRecogniserModel", name := "ends", desc := "(II)I" } : Jvm.MethodName)) ∈ lw_all := lw_g (lw_at lw_m2 40 rfl) rfl
theorem q306 : (Jvm.Cond.methodLink "GllRecogniserLaw" (64 : Nat) ({ cls := "GllRecogniserModel", name := "ruleFits", desc := "(III)I" } : Jvm.MethodName)) ∈ lw_all := lw_g (lw_at lw_m2 44 rfl) rfl
theorem q310 : (Jvm.Cond.methodLink "GllRecogniserLaw" (68 : Nat) ({ cls := "GllRecogniserModel", name := "stretches", desc := "(I)I" } : Jvm.MethodName)) ∈ lw_all := lw_g (lw_at lw_m2 48 rfl) rfl
theorem q314 : (Jvm.Cond.methodLink "GllRecogniserLaw" (72 : Nat) ({ cls := "GllRecogniserModel", name := "longest", desc := "(I)I" } : Jvm.MethodName)) ∈ lw_all := lw_g (lw_at lw_m2 52 rfl) rfl
theorem q318 : (Jvm.Cond.methodLink "GllRecogniserLaw" (76 : Nat) ({ cls := "GllRecogniserModel", name := "empty", desc := "(I)I" } : Jvm.MethodName)) ∈ lw_all := lw_g (lw_at lw_m2 56 rfl) rfl
theorem q322 : (Jvm.Cond.methodLink "GllRecogniserLaw" (80 : Nat) ({ cls := "GllRecogniserModel", name := "ways", desc := "(III)I" } : Jvm.MethodName)) ∈ lw_all := lw_g (lw_at lw_m2 60 rfl) rfl
theorem q326 : (Jvm.Cond.methodLink "GllRecogniserLaw" (84 : Nat) ({ cls := "GllRecogniserModel", name := "nextLetter", desc := "()I" } : Jvm.MethodName)) ∈ lw_all := lw_g (lw_at lw_m2 64 rfl) rfl
/-! GllRecogniser -/
def RX0 : String := "GllRecogniser"
def TX0 : u_T := fun k => match k with
  | 0 => ("GllRecogniser", "lefts", "[I", true)
  | 1 => ("GllRecogniser", "rights", "[I", true)
  | 2 => ("GllRecogniser", "sizes", "[I", true)
  | 3 => ("GllRecogniser", "text", "[I", true)
  | 4 => ("GllRecogniser", "seen", "[I", true)
  | 5 => ("GllRecogniser", "pending", "[I", true)
  | 6 => ("GllRecogniser", "callers", "[I", true)
  | 7 => ("GllRecogniser", "ended", "[I", true)
  | 8 => ("GllRecogniser", "opened", "[Z", true)
  | 9 => ("GllRecogniser", "count", "I", false)
  | 10 => ("GllRecogniser", "size", "I", false)
  | _ => ("GllRecogniser", "open", "I", false)
def tyX0 : Nat → FieldType := fun k => match k with
  | 0 => .array .int
  | 1 => .array .int
  | 2 => .array .int
  | 3 => .array .int
  | 4 => .array .int
  | 5 => .array .int
  | 6 => .array .int
  | 7 => .array .int
  | 8 => .array .boolean
  | 9 => .int
  | 10 => .int
  | _ => .int
abbrev wsX00 : List Cond := u_ws RX0 TX0 12
theorem nmX0 : ∀ a, a < 12 → ∀ b, b < 12 → a ≠ b → (TX0 a).2.1 ≠ (TX0 b).2.1 := by decide +kernel
theorem tyX0_ok : ∀ k, k < 12 → parseFieldDescriptor (TX0 k).2.2.1 = some (tyX0 k) := by decide +kernel
abbrev cX0_init : ByteArray := prog_1_method_1_code
def yX0_init : MethodName := ⟨RX0, "<init>", "()V"⟩
theorem dX0_init_0 : decode cX0_init 0 = .ok (.aload_n 0, 1) := by decide +kernel
theorem dX0_init_1 : decode cX0_init 1 = .ok (.invokespecial 1, 3) := by decide +kernel
theorem dX0_init_4 : decode cX0_init 4 = .ok (.aload_n 0, 1) := by decide +kernel
theorem dX0_init_5 : decode cX0_init 5 = .ok (.bipush 12, 2) := by decide +kernel
theorem dX0_init_7 : decode cX0_init 7 = .ok (.newarray .int, 2) := by decide +kernel
theorem dX0_init_9 : decode cX0_init 9 = .ok (.putfield 7, 3) := by decide +kernel
theorem dX0_init_12 : decode cX0_init 12 = .ok (.aload_n 0, 1) := by decide +kernel
theorem dX0_init_13 : decode cX0_init 13 = .ok (.bipush 36, 2) := by decide +kernel
theorem dX0_init_15 : decode cX0_init 15 = .ok (.newarray .int, 2) := by decide +kernel
theorem dX0_init_17 : decode cX0_init 17 = .ok (.putfield 13, 3) := by decide +kernel
theorem dX0_init_20 : decode cX0_init 20 = .ok (.aload_n 0, 1) := by decide +kernel
theorem dX0_init_21 : decode cX0_init 21 = .ok (.bipush 12, 2) := by decide +kernel
theorem dX0_init_23 : decode cX0_init 23 = .ok (.newarray .int, 2) := by decide +kernel
theorem dX0_init_25 : decode cX0_init 25 = .ok (.putfield 16, 3) := by decide +kernel
theorem dX0_init_28 : decode cX0_init 28 = .ok (.aload_n 0, 1) := by decide +kernel
theorem dX0_init_29 : decode cX0_init 29 = .ok (.bipush 9, 2) := by decide +kernel
theorem dX0_init_31 : decode cX0_init 31 = .ok (.newarray .int, 2) := by decide +kernel
theorem dX0_init_33 : decode cX0_init 33 = .ok (.putfield 19, 3) := by decide +kernel
theorem dX0_init_36 : decode cX0_init 36 = .ok (.aload_n 0, 1) := by decide +kernel
theorem dX0_init_37 : decode cX0_init 37 = .ok (.sipush 608, 3) := by decide +kernel
theorem dX0_init_40 : decode cX0_init 40 = .ok (.newarray .int, 2) := by decide +kernel
theorem dX0_init_42 : decode cX0_init 42 = .ok (.putfield 22, 3) := by decide +kernel
theorem dX0_init_45 : decode cX0_init 45 = .ok (.aload_n 0, 1) := by decide +kernel
theorem dX0_init_46 : decode cX0_init 46 = .ok (.sipush 608, 3) := by decide +kernel
theorem dX0_init_49 : decode cX0_init 49 = .ok (.newarray .int, 2) := by decide +kernel
theorem dX0_init_51 : decode cX0_init 51 = .ok (.putfield 25, 3) := by decide +kernel
theorem dX0_init_54 : decode cX0_init 54 = .ok (.aload_n 0, 1) := by decide +kernel
theorem dX0_init_55 : decode cX0_init 55 = .ok (.sipush 3060, 3) := by decide +kernel
theorem dX0_init_58 : decode cX0_init 58 = .ok (.newarray .int, 2) := by decide +kernel
theorem dX0_init_60 : decode cX0_init 60 = .ok (.putfield 28, 3) := by decide +kernel
theorem dX0_init_63 : decode cX0_init 63 = .ok (.aload_n 0, 1) := by decide +kernel
theorem dX0_init_64 : decode cX0_init 64 = .ok (.bipush 45, 2) := by decide +kernel
theorem dX0_init_66 : decode cX0_init 66 = .ok (.newarray .int, 2) := by decide +kernel
theorem dX0_init_68 : decode cX0_init 68 = .ok (.putfield 31, 3) := by decide +kernel
theorem dX0_init_71 : decode cX0_init 71 = .ok (.aload_n 0, 1) := by decide +kernel
theorem dX0_init_72 : decode cX0_init 72 = .ok (.bipush 45, 2) := by decide +kernel
theorem dX0_init_74 : decode cX0_init 74 = .ok (.newarray .boolean, 2) := by decide +kernel
theorem dX0_init_76 : decode cX0_init 76 = .ok (.putfield 34, 3) := by decide +kernel
theorem dX0_init_79 : decode cX0_init 79 = .ok (.aload_n 0, 1) := by decide +kernel
theorem dX0_init_80 : decode cX0_init 80 = .ok (.iconst 0, 1) := by decide +kernel
theorem dX0_init_81 : decode cX0_init 81 = .ok (.putfield 38, 3) := by decide +kernel
theorem dX0_init_84 : decode cX0_init 84 = .ok (.return_, 1) := by decide +kernel
abbrev cX0_rule : ByteArray := prog_1_method_2_code
def yX0_rule : MethodName := ⟨RX0, "rule", "(II)I"⟩
theorem dX0_rule_0 : decode cX0_rule 0 = .ok (.iload_n 1, 1) := by decide +kernel
theorem dX0_rule_1 : decode cX0_rule 1 = .ok (.invokestatic 42, 3) := by decide +kernel
theorem dX0_rule_4 : decode cX0_rule 4 = .ok (.ifCond .ne 5, 3) := by decide +kernel
theorem dX0_rule_7 : decode cX0_rule 7 = .ok (.iconst (-1), 1) := by decide +kernel
theorem dX0_rule_8 : decode cX0_rule 8 = .ok (.ireturn, 1) := by decide +kernel
theorem dX0_rule_9 : decode cX0_rule 9 = .ok (.iload_n 2, 1) := by decide +kernel
theorem dX0_rule_10 : decode cX0_rule 10 = .ok (.invokestatic 46, 3) := by decide +kernel
theorem dX0_rule_13 : decode cX0_rule 13 = .ok (.istore_n 3, 1) := by decide +kernel
theorem dX0_rule_14 : decode cX0_rule 14 = .ok (.iload_n 3, 1) := by decide +kernel
theorem dX0_rule_15 : decode cX0_rule 15 = .ok (.ifCond .ge 6, 3) := by decide +kernel
theorem dX0_rule_18 : decode cX0_rule 18 = .ok (.bipush (-2), 2) := by decide +kernel
theorem dX0_rule_20 : decode cX0_rule 20 = .ok (.ireturn, 1) := by decide +kernel
theorem dX0_rule_21 : decode cX0_rule 21 = .ok (.aload_n 0, 1) := by decide +kernel
theorem dX0_rule_22 : decode cX0_rule 22 = .ok (.getfield 38, 3) := by decide +kernel
theorem dX0_rule_25 : decode cX0_rule 25 = .ok (.bipush 12, 2) := by decide +kernel
theorem dX0_rule_27 : decode cX0_rule 27 = .ok (.if_icmp .ne 6, 3) := by decide +kernel
theorem dX0_rule_30 : decode cX0_rule 30 = .ok (.bipush (-3), 2) := by decide +kernel
theorem dX0_rule_32 : decode cX0_rule 32 = .ok (.ireturn, 1) := by decide +kernel
theorem dX0_rule_33 : decode cX0_rule 33 = .ok (.aload_n 0, 1) := by decide +kernel
theorem dX0_rule_34 : decode cX0_rule 34 = .ok (.getfield 7, 3) := by decide +kernel
theorem dX0_rule_37 : decode cX0_rule 37 = .ok (.aload_n 0, 1) := by decide +kernel
theorem dX0_rule_38 : decode cX0_rule 38 = .ok (.getfield 38, 3) := by decide +kernel
theorem dX0_rule_41 : decode cX0_rule 41 = .ok (.iload_n 1, 1) := by decide +kernel
theorem dX0_rule_42 : decode cX0_rule 42 = .ok (.iastore, 1) := by decide +kernel
theorem dX0_rule_43 : decode cX0_rule 43 = .ok (.aload_n 0, 1) := by decide +kernel
theorem dX0_rule_44 : decode cX0_rule 44 = .ok (.getfield 16, 3) := by decide +kernel
theorem dX0_rule_47 : decode cX0_rule 47 = .ok (.aload_n 0, 1) := by decide +kernel
theorem dX0_rule_48 : decode cX0_rule 48 = .ok (.getfield 38, 3) := by decide +kernel
theorem dX0_rule_51 : decode cX0_rule 51 = .ok (.iload_n 3, 1) := by decide +kernel
theorem dX0_rule_52 : decode cX0_rule 52 = .ok (.iastore, 1) := by decide +kernel
theorem dX0_rule_53 : decode cX0_rule 53 = .ok (.iload_n 2, 1) := by decide +kernel
theorem dX0_rule_54 : decode cX0_rule 54 = .ok (.istore 4, 2) := by decide +kernel
theorem dX0_rule_56 : decode cX0_rule 56 = .ok (.iload_n 3, 1) := by decide +kernel
theorem dX0_rule_57 : decode cX0_rule 57 = .ok (.iconst 1, 1) := by decide +kernel
theorem dX0_rule_58 : decode cX0_rule 58 = .ok (.isub, 1) := by decide +kernel
theorem dX0_rule_59 : decode cX0_rule 59 = .ok (.istore 5, 2) := by decide +kernel
theorem dX0_rule_61 : decode cX0_rule 61 = .ok (.iload 5, 2) := by decide +kernel
theorem dX0_rule_63 : decode cX0_rule 63 = .ok (.ifCond .lt 37, 3) := by decide +kernel
theorem dX0_rule_66 : decode cX0_rule 66 = .ok (.aload_n 0, 1) := by decide +kernel
theorem dX0_rule_67 : decode cX0_rule 67 = .ok (.getfield 13, 3) := by decide +kernel
theorem dX0_rule_70 : decode cX0_rule 70 = .ok (.iconst 3, 1) := by decide +kernel
theorem dX0_rule_71 : decode cX0_rule 71 = .ok (.aload_n 0, 1) := by decide +kernel
theorem dX0_rule_72 : decode cX0_rule 72 = .ok (.getfield 38, 3) := by decide +kernel
theorem dX0_rule_75 : decode cX0_rule 75 = .ok (.imul, 1) := by decide +kernel
theorem dX0_rule_76 : decode cX0_rule 76 = .ok (.iload 5, 2) := by decide +kernel
theorem dX0_rule_78 : decode cX0_rule 78 = .ok (.iadd, 1) := by decide +kernel
theorem dX0_rule_79 : decode cX0_rule 79 = .ok (.iload 4, 2) := by decide +kernel
theorem dX0_rule_81 : decode cX0_rule 81 = .ok (.bipush 9, 2) := by decide +kernel
theorem dX0_rule_83 : decode cX0_rule 83 = .ok (.irem, 1) := by decide +kernel
theorem dX0_rule_84 : decode cX0_rule 84 = .ok (.iconst 1, 1) := by decide +kernel
theorem dX0_rule_85 : decode cX0_rule 85 = .ok (.isub, 1) := by decide +kernel
theorem dX0_rule_86 : decode cX0_rule 86 = .ok (.iastore, 1) := by decide +kernel
theorem dX0_rule_87 : decode cX0_rule 87 = .ok (.iload 4, 2) := by decide +kernel
theorem dX0_rule_89 : decode cX0_rule 89 = .ok (.bipush 9, 2) := by decide +kernel
theorem dX0_rule_91 : decode cX0_rule 91 = .ok (.idiv, 1) := by decide +kernel
theorem dX0_rule_92 : decode cX0_rule 92 = .ok (.istore 4, 2) := by decide +kernel
theorem dX0_rule_94 : decode cX0_rule 94 = .ok (.iinc 5 (-1), 3) := by decide +kernel
theorem dX0_rule_97 : decode cX0_rule 97 = .ok (.goto (-36), 3) := by decide +kernel
theorem dX0_rule_100 : decode cX0_rule 100 = .ok (.aload_n 0, 1) := by decide +kernel
theorem dX0_rule_101 : decode cX0_rule 101 = .ok (.dup, 1) := by decide +kernel
theorem dX0_rule_102 : decode cX0_rule 102 = .ok (.getfield 38, 3) := by decide +kernel
theorem dX0_rule_105 : decode cX0_rule 105 = .ok (.iconst 1, 1) := by decide +kernel
theorem dX0_rule_106 : decode cX0_rule 106 = .ok (.iadd, 1) := by decide +kernel
theorem dX0_rule_107 : decode cX0_rule 107 = .ok (.putfield 38, 3) := by decide +kernel
theorem dX0_rule_110 : decode cX0_rule 110 = .ok (.aload_n 0, 1) := by decide +kernel
theorem dX0_rule_111 : decode cX0_rule 111 = .ok (.getfield 38, 3) := by decide +kernel
theorem dX0_rule_114 : decode cX0_rule 114 = .ok (.iconst 1, 1) := by decide +kernel
theorem dX0_rule_115 : decode cX0_rule 115 = .ok (.isub, 1) := by decide +kernel
theorem dX0_rule_116 : decode cX0_rule 116 = .ok (.ireturn, 1) := by decide +kernel
abbrev cX0_isName : ByteArray := prog_1_method_19_code
def yX0_isName : MethodName := ⟨RX0, "isName", "(I)Z"⟩
theorem dX0_isName_0 : decode cX0_isName 0 = .ok (.iload_n 0, 1) := by decide +kernel
theorem dX0_isName_1 : decode cX0_isName 1 = .ok (.ifCond .lt 12, 3) := by decide +kernel
theorem dX0_isName_4 : decode cX0_isName 4 = .ok (.iload_n 0, 1) := by decide +kernel
theorem dX0_isName_5 : decode cX0_isName 5 = .ok (.iconst 5, 1) := by decide +kernel
theorem dX0_isName_6 : decode cX0_isName 6 = .ok (.if_icmp .ge 7, 3) := by decide +kernel
theorem dX0_isName_9 : decode cX0_isName 9 = .ok (.iconst 1, 1) := by decide +kernel
theorem dX0_isName_10 : decode cX0_isName 10 = .ok (.goto 4, 3) := by decide +kernel
theorem dX0_isName_13 : decode cX0_isName 13 = .ok (.iconst 0, 1) := by decide +kernel
theorem dX0_isName_14 : decode cX0_isName 14 = .ok (.ireturn, 1) := by decide +kernel
abbrev cX0_rowSize : ByteArray := prog_1_method_23_code
def yX0_rowSize : MethodName := ⟨RX0, "rowSize", "(I)I"⟩
theorem dX0_rowSize_0 : decode cX0_rowSize 0 = .ok (.iload_n 0, 1) := by decide +kernel
theorem dX0_rowSize_1 : decode cX0_rowSize 1 = .ok (.ifCond .lt 10, 3) := by decide +kernel
theorem dX0_rowSize_4 : decode cX0_rowSize 4 = .ok (.iload_n 0, 1) := by decide +kernel
theorem dX0_rowSize_5 : decode cX0_rowSize 5 = .ok (.sipush 729, 3) := by decide +kernel
theorem dX0_rowSize_8 : decode cX0_rowSize 8 = .ok (.if_icmp .lt 5, 3) := by decide +kernel
theorem dX0_rowSize_11 : decode cX0_rowSize 11 = .ok (.iconst (-1), 1) := by decide +kernel
theorem dX0_rowSize_12 : decode cX0_rowSize 12 = .ok (.ireturn, 1) := by decide +kernel
theorem dX0_rowSize_13 : decode cX0_rowSize 13 = .ok (.iconst 0, 1) := by decide +kernel
theorem dX0_rowSize_14 : decode cX0_rowSize 14 = .ok (.istore_n 1, 1) := by decide +kernel
theorem dX0_rowSize_15 : decode cX0_rowSize 15 = .ok (.iload_n 0, 1) := by decide +kernel
theorem dX0_rowSize_16 : decode cX0_rowSize 16 = .ok (.istore_n 2, 1) := by decide +kernel
theorem dX0_rowSize_17 : decode cX0_rowSize 17 = .ok (.iload_n 2, 1) := by decide +kernel
theorem dX0_rowSize_18 : decode cX0_rowSize 18 = .ok (.ifCond .le 23, 3) := by decide +kernel
theorem dX0_rowSize_21 : decode cX0_rowSize 21 = .ok (.iload_n 2, 1) := by decide +kernel
theorem dX0_rowSize_22 : decode cX0_rowSize 22 = .ok (.bipush 9, 2) := by decide +kernel
theorem dX0_rowSize_24 : decode cX0_rowSize 24 = .ok (.irem, 1) := by decide +kernel
theorem dX0_rowSize_25 : decode cX0_rowSize 25 = .ok (.ifCond .ne 5, 3) := by decide +kernel
theorem dX0_rowSize_28 : decode cX0_rowSize 28 = .ok (.iconst (-1), 1) := by decide +kernel
theorem dX0_rowSize_29 : decode cX0_rowSize 29 = .ok (.ireturn, 1) := by decide +kernel
theorem dX0_rowSize_30 : decode cX0_rowSize 30 = .ok (.iinc 1 1, 3) := by decide +kernel
theorem dX0_rowSize_33 : decode cX0_rowSize 33 = .ok (.iload_n 2, 1) := by decide +kernel
theorem dX0_rowSize_34 : decode cX0_rowSize 34 = .ok (.bipush 9, 2) := by decide +kernel
theorem dX0_rowSize_36 : decode cX0_rowSize 36 = .ok (.idiv, 1) := by decide +kernel
theorem dX0_rowSize_37 : decode cX0_rowSize 37 = .ok (.istore_n 2, 1) := by decide +kernel
theorem dX0_rowSize_38 : decode cX0_rowSize 38 = .ok (.goto (-21), 3) := by decide +kernel
theorem dX0_rowSize_41 : decode cX0_rowSize 41 = .ok (.iload_n 1, 1) := by decide +kernel
theorem dX0_rowSize_42 : decode cX0_rowSize 42 = .ok (.ireturn, 1) := by decide +kernel
abbrev cX0_drop : ByteArray := prog_1_method_3_code
def yX0_drop : MethodName := ⟨RX0, "drop", "(I)I"⟩
theorem dX0_drop_0 : decode cX0_drop 0 = .ok (.aload_n 0, 1) := by decide +kernel
theorem dX0_drop_1 : decode cX0_drop 1 = .ok (.iload_n 1, 1) := by decide +kernel
theorem dX0_drop_2 : decode cX0_drop 2 = .ok (.invokevirtual 50, 3) := by decide +kernel
theorem dX0_drop_5 : decode cX0_drop 5 = .ok (.ifCond .ne 5, 3) := by decide +kernel
theorem dX0_drop_8 : decode cX0_drop 8 = .ok (.iconst (-1), 1) := by decide +kernel
theorem dX0_drop_9 : decode cX0_drop 9 = .ok (.ireturn, 1) := by decide +kernel
theorem dX0_drop_10 : decode cX0_drop 10 = .ok (.iload_n 1, 1) := by decide +kernel
theorem dX0_drop_11 : decode cX0_drop 11 = .ok (.iconst 1, 1) := by decide +kernel
theorem dX0_drop_12 : decode cX0_drop 12 = .ok (.iadd, 1) := by decide +kernel
theorem dX0_drop_13 : decode cX0_drop 13 = .ok (.istore_n 2, 1) := by decide +kernel
theorem dX0_drop_14 : decode cX0_drop 14 = .ok (.iload_n 2, 1) := by decide +kernel
theorem dX0_drop_15 : decode cX0_drop 15 = .ok (.aload_n 0, 1) := by decide +kernel
theorem dX0_drop_16 : decode cX0_drop 16 = .ok (.getfield 38, 3) := by decide +kernel
theorem dX0_drop_19 : decode cX0_drop 19 = .ok (.if_icmp .ge 72, 3) := by decide +kernel
theorem dX0_drop_22 : decode cX0_drop 22 = .ok (.aload_n 0, 1) := by decide +kernel
theorem dX0_drop_23 : decode cX0_drop 23 = .ok (.getfield 7, 3) := by decide +kernel
theorem dX0_drop_26 : decode cX0_drop 26 = .ok (.iload_n 2, 1) := by decide +kernel
theorem dX0_drop_27 : decode cX0_drop 27 = .ok (.iconst 1, 1) := by decide +kernel
theorem dX0_drop_28 : decode cX0_drop 28 = .ok (.isub, 1) := by decide +kernel
theorem dX0_drop_29 : decode cX0_drop 29 = .ok (.aload_n 0, 1) := by decide +kernel
theorem dX0_drop_30 : decode cX0_drop 30 = .ok (.getfield 7, 3) := by decide +kernel
theorem dX0_drop_33 : decode cX0_drop 33 = .ok (.iload_n 2, 1) := by decide +kernel
theorem dX0_drop_34 : decode cX0_drop 34 = .ok (.iaload, 1) := by decide +kernel
theorem dX0_drop_35 : decode cX0_drop 35 = .ok (.iastore, 1) := by decide +kernel
theorem dX0_drop_36 : decode cX0_drop 36 = .ok (.aload_n 0, 1) := by decide +kernel
theorem dX0_drop_37 : decode cX0_drop 37 = .ok (.getfield 16, 3) := by decide +kernel
theorem dX0_drop_40 : decode cX0_drop 40 = .ok (.iload_n 2, 1) := by decide +kernel
theorem dX0_drop_41 : decode cX0_drop 41 = .ok (.iconst 1, 1) := by decide +kernel
theorem dX0_drop_42 : decode cX0_drop 42 = .ok (.isub, 1) := by decide +kernel
theorem dX0_drop_43 : decode cX0_drop 43 = .ok (.aload_n 0, 1) := by decide +kernel
theorem dX0_drop_44 : decode cX0_drop 44 = .ok (.getfield 16, 3) := by decide +kernel
theorem dX0_drop_47 : decode cX0_drop 47 = .ok (.iload_n 2, 1) := by decide +kernel
theorem dX0_drop_48 : decode cX0_drop 48 = .ok (.iaload, 1) := by decide +kernel
theorem dX0_drop_49 : decode cX0_drop 49 = .ok (.iastore, 1) := by decide +kernel
theorem dX0_drop_50 : decode cX0_drop 50 = .ok (.iconst 0, 1) := by decide +kernel
theorem dX0_drop_51 : decode cX0_drop 51 = .ok (.istore_n 3, 1) := by decide +kernel
theorem dX0_drop_52 : decode cX0_drop 52 = .ok (.iload_n 3, 1) := by decide +kernel
theorem dX0_drop_53 : decode cX0_drop 53 = .ok (.iconst 3, 1) := by decide +kernel
theorem dX0_drop_54 : decode cX0_drop 54 = .ok (.if_icmp .ge 31, 3) := by decide +kernel
theorem dX0_drop_57 : decode cX0_drop 57 = .ok (.aload_n 0, 1) := by decide +kernel
theorem dX0_drop_58 : decode cX0_drop 58 = .ok (.getfield 13, 3) := by decide +kernel
theorem dX0_drop_61 : decode cX0_drop 61 = .ok (.iconst 3, 1) := by decide +kernel
theorem dX0_drop_62 : decode cX0_drop 62 = .ok (.iload_n 2, 1) := by decide +kernel
theorem dX0_drop_63 : decode cX0_drop 63 = .ok (.imul, 1) := by decide +kernel
theorem dX0_drop_64 : decode cX0_drop 64 = .ok (.iconst 3, 1) := by decide +kernel
theorem dX0_drop_65 : decode cX0_drop 65 = .ok (.isub, 1) := by decide +kernel
theorem dX0_drop_66 : decode cX0_drop 66 = .ok (.iload_n 3, 1) := by decide +kernel
theorem dX0_drop_67 : decode cX0_drop 67 = .ok (.iadd, 1) := by decide +kernel
theorem dX0_drop_68 : decode cX0_drop 68 = .ok (.aload_n 0, 1) := by decide +kernel
theorem dX0_drop_69 : decode cX0_drop 69 = .ok (.getfield 13, 3) := by decide +kernel
theorem dX0_drop_72 : decode cX0_drop 72 = .ok (.iconst 3, 1) := by decide +kernel
theorem dX0_drop_73 : decode cX0_drop 73 = .ok (.iload_n 2, 1) := by decide +kernel
theorem dX0_drop_74 : decode cX0_drop 74 = .ok (.imul, 1) := by decide +kernel
theorem dX0_drop_75 : decode cX0_drop 75 = .ok (.iload_n 3, 1) := by decide +kernel
theorem dX0_drop_76 : decode cX0_drop 76 = .ok (.iadd, 1) := by decide +kernel
theorem dX0_drop_77 : decode cX0_drop 77 = .ok (.iaload, 1) := by decide +kernel
theorem dX0_drop_78 : decode cX0_drop 78 = .ok (.iastore, 1) := by decide +kernel
theorem dX0_drop_79 : decode cX0_drop 79 = .ok (.iinc 3 1, 3) := by decide +kernel
theorem dX0_drop_82 : decode cX0_drop 82 = .ok (.goto (-30), 3) := by decide +kernel
theorem dX0_drop_85 : decode cX0_drop 85 = .ok (.iinc 2 1, 3) := by decide +kernel
theorem dX0_drop_88 : decode cX0_drop 88 = .ok (.goto (-74), 3) := by decide +kernel
theorem dX0_drop_91 : decode cX0_drop 91 = .ok (.aload_n 0, 1) := by decide +kernel
theorem dX0_drop_92 : decode cX0_drop 92 = .ok (.dup, 1) := by decide +kernel
theorem dX0_drop_93 : decode cX0_drop 93 = .ok (.getfield 38, 3) := by decide +kernel
theorem dX0_drop_96 : decode cX0_drop 96 = .ok (.iconst 1, 1) := by decide +kernel
theorem dX0_drop_97 : decode cX0_drop 97 = .ok (.isub, 1) := by decide +kernel
theorem dX0_drop_98 : decode cX0_drop 98 = .ok (.putfield 38, 3) := by decide +kernel
theorem dX0_drop_101 : decode cX0_drop 101 = .ok (.aload_n 0, 1) := by decide +kernel
theorem dX0_drop_102 : decode cX0_drop 102 = .ok (.getfield 38, 3) := by decide +kernel
theorem dX0_drop_105 : decode cX0_drop 105 = .ok (.ireturn, 1) := by decide +kernel
abbrev cX0_isRule : ByteArray := prog_1_method_21_code
def yX0_isRule : MethodName := ⟨RX0, "isRule", "(I)Z"⟩
theorem dX0_isRule_0 : decode cX0_isRule 0 = .ok (.iload_n 1, 1) := by decide +kernel
theorem dX0_isRule_1 : decode cX0_isRule 1 = .ok (.ifCond .lt 15, 3) := by decide +kernel
theorem dX0_isRule_4 : decode cX0_isRule 4 = .ok (.iload_n 1, 1) := by decide +kernel
theorem dX0_isRule_5 : decode cX0_isRule 5 = .ok (.aload_n 0, 1) := by decide +kernel
theorem dX0_isRule_6 : decode cX0_isRule 6 = .ok (.getfield 38, 3) := by decide +kernel
theorem dX0_isRule_9 : decode cX0_isRule 9 = .ok (.if_icmp .ge 7, 3) := by decide +kernel
theorem dX0_isRule_12 : decode cX0_isRule 12 = .ok (.iconst 1, 1) := by decide +kernel
theorem dX0_isRule_13 : decode cX0_isRule 13 = .ok (.goto 4, 3) := by decide +kernel
theorem dX0_isRule_16 : decode cX0_isRule 16 = .ok (.iconst 0, 1) := by decide +kernel
theorem dX0_isRule_17 : decode cX0_isRule 17 = .ok (.ireturn, 1) := by decide +kernel
abbrev cX0_clear : ByteArray := prog_1_method_4_code
def yX0_clear : MethodName := ⟨RX0, "clear", "()I"⟩
theorem dX0_clear_0 : decode cX0_clear 0 = .ok (.aload_n 0, 1) := by decide +kernel
theorem dX0_clear_1 : decode cX0_clear 1 = .ok (.getfield 38, 3) := by decide +kernel
theorem dX0_clear_4 : decode cX0_clear 4 = .ok (.istore_n 1, 1) := by decide +kernel
theorem dX0_clear_5 : decode cX0_clear 5 = .ok (.aload_n 0, 1) := by decide +kernel
theorem dX0_clear_6 : decode cX0_clear 6 = .ok (.iconst 0, 1) := by decide +kernel
theorem dX0_clear_7 : decode cX0_clear 7 = .ok (.putfield 38, 3) := by decide +kernel
theorem dX0_clear_10 : decode cX0_clear 10 = .ok (.iload_n 1, 1) := by decide +kernel
theorem dX0_clear_11 : decode cX0_clear 11 = .ok (.ireturn, 1) := by decide +kernel
abbrev cX0_rules : ByteArray := prog_1_method_5_code
def yX0_rules : MethodName := ⟨RX0, "rules", "()I"⟩
theorem dX0_rules_0 : decode cX0_rules 0 = .ok (.aload_n 0, 1) := by decide +kernel
theorem dX0_rules_1 : decode cX0_rules 1 = .ok (.getfield 38, 3) := by decide +kernel
theorem dX0_rules_4 : decode cX0_rules 4 = .ok (.ireturn, 1) := by decide +kernel
abbrev cX0_push : ByteArray := prog_1_method_6_code
def yX0_push : MethodName := ⟨RX0, "push", "(I)I"⟩
theorem dX0_push_0 : decode cX0_push 0 = .ok (.iload_n 1, 1) := by decide +kernel
theorem dX0_push_1 : decode cX0_push 1 = .ok (.iconst 5, 1) := by decide +kernel
theorem dX0_push_2 : decode cX0_push 2 = .ok (.if_icmp .lt 9, 3) := by decide +kernel
theorem dX0_push_5 : decode cX0_push 5 = .ok (.iload_n 1, 1) := by decide +kernel
theorem dX0_push_6 : decode cX0_push 6 = .ok (.bipush 7, 2) := by decide +kernel
theorem dX0_push_8 : decode cX0_push 8 = .ok (.if_icmp .le 5, 3) := by decide +kernel
theorem dX0_push_11 : decode cX0_push 11 = .ok (.iconst (-1), 1) := by decide +kernel
theorem dX0_push_12 : decode cX0_push 12 = .ok (.ireturn, 1) := by decide +kernel
theorem dX0_push_13 : decode cX0_push 13 = .ok (.aload_n 0, 1) := by decide +kernel
theorem dX0_push_14 : decode cX0_push 14 = .ok (.getfield 53, 3) := by decide +kernel
theorem dX0_push_17 : decode cX0_push 17 = .ok (.bipush 8, 2) := by decide +kernel
theorem dX0_push_19 : decode cX0_push 19 = .ok (.if_icmp .ne 6, 3) := by decide +kernel
theorem dX0_push_22 : decode cX0_push 22 = .ok (.bipush (-2), 2) := by decide +kernel
theorem dX0_push_24 : decode cX0_push 24 = .ok (.ireturn, 1) := by decide +kernel
theorem dX0_push_25 : decode cX0_push 25 = .ok (.aload_n 0, 1) := by decide +kernel
theorem dX0_push_26 : decode cX0_push 26 = .ok (.getfield 19, 3) := by decide +kernel
theorem dX0_push_29 : decode cX0_push 29 = .ok (.aload_n 0, 1) := by decide +kernel
theorem dX0_push_30 : decode cX0_push 30 = .ok (.getfield 53, 3) := by decide +kernel
theorem dX0_push_33 : decode cX0_push 33 = .ok (.iload_n 1, 1) := by decide +kernel
theorem dX0_push_34 : decode cX0_push 34 = .ok (.iastore, 1) := by decide +kernel
theorem dX0_push_35 : decode cX0_push 35 = .ok (.aload_n 0, 1) := by decide +kernel
theorem dX0_push_36 : decode cX0_push 36 = .ok (.dup, 1) := by decide +kernel
theorem dX0_push_37 : decode cX0_push 37 = .ok (.getfield 53, 3) := by decide +kernel
theorem dX0_push_40 : decode cX0_push 40 = .ok (.iconst 1, 1) := by decide +kernel
theorem dX0_push_41 : decode cX0_push 41 = .ok (.iadd, 1) := by decide +kernel
theorem dX0_push_42 : decode cX0_push 42 = .ok (.putfield 53, 3) := by decide +kernel
theorem dX0_push_45 : decode cX0_push 45 = .ok (.aload_n 0, 1) := by decide +kernel
theorem dX0_push_46 : decode cX0_push 46 = .ok (.getfield 53, 3) := by decide +kernel
theorem dX0_push_49 : decode cX0_push 49 = .ok (.ireturn, 1) := by decide +kernel
abbrev cX0_pop : ByteArray := prog_1_method_7_code
def yX0_pop : MethodName := ⟨RX0, "pop", "()I"⟩
theorem dX0_pop_0 : decode cX0_pop 0 = .ok (.aload_n 0, 1) := by decide +kernel
theorem dX0_pop_1 : decode cX0_pop 1 = .ok (.getfield 53, 3) := by decide +kernel
theorem dX0_pop_4 : decode cX0_pop 4 = .ok (.ifCond .ne 5, 3) := by decide +kernel
theorem dX0_pop_7 : decode cX0_pop 7 = .ok (.iconst (-1), 1) := by decide +kernel
theorem dX0_pop_8 : decode cX0_pop 8 = .ok (.ireturn, 1) := by decide +kernel
theorem dX0_pop_9 : decode cX0_pop 9 = .ok (.aload_n 0, 1) := by decide +kernel
theorem dX0_pop_10 : decode cX0_pop 10 = .ok (.dup, 1) := by decide +kernel
theorem dX0_pop_11 : decode cX0_pop 11 = .ok (.getfield 53, 3) := by decide +kernel
theorem dX0_pop_14 : decode cX0_pop 14 = .ok (.iconst 1, 1) := by decide +kernel
theorem dX0_pop_15 : decode cX0_pop 15 = .ok (.isub, 1) := by decide +kernel
theorem dX0_pop_16 : decode cX0_pop 16 = .ok (.putfield 53, 3) := by decide +kernel
theorem dX0_pop_19 : decode cX0_pop 19 = .ok (.aload_n 0, 1) := by decide +kernel
theorem dX0_pop_20 : decode cX0_pop 20 = .ok (.getfield 19, 3) := by decide +kernel
theorem dX0_pop_23 : decode cX0_pop 23 = .ok (.aload_n 0, 1) := by decide +kernel
theorem dX0_pop_24 : decode cX0_pop 24 = .ok (.getfield 53, 3) := by decide +kernel
theorem dX0_pop_27 : decode cX0_pop 27 = .ok (.iaload, 1) := by decide +kernel
theorem dX0_pop_28 : decode cX0_pop 28 = .ok (.ireturn, 1) := by decide +kernel
abbrev cX0_write : ByteArray := prog_1_method_8_code
def yX0_write : MethodName := ⟨RX0, "write", "(II)I"⟩
theorem dX0_write_0 : decode cX0_write 0 = .ok (.iload_n 1, 1) := by decide +kernel
theorem dX0_write_1 : decode cX0_write 1 = .ok (.ifCond .lt 9, 3) := by decide +kernel
theorem dX0_write_4 : decode cX0_write 4 = .ok (.iload_n 1, 1) := by decide +kernel
theorem dX0_write_5 : decode cX0_write 5 = .ok (.bipush 8, 2) := by decide +kernel
theorem dX0_write_7 : decode cX0_write 7 = .ok (.if_icmp .le 5, 3) := by decide +kernel
theorem dX0_write_10 : decode cX0_write 10 = .ok (.iconst (-1), 1) := by decide +kernel
theorem dX0_write_11 : decode cX0_write 11 = .ok (.ireturn, 1) := by decide +kernel
theorem dX0_write_12 : decode cX0_write 12 = .ok (.iconst 1, 1) := by decide +kernel
theorem dX0_write_13 : decode cX0_write 13 = .ok (.istore_n 3, 1) := by decide +kernel
theorem dX0_write_14 : decode cX0_write 14 = .ok (.iconst 0, 1) := by decide +kernel
theorem dX0_write_15 : decode cX0_write 15 = .ok (.istore 4, 2) := by decide +kernel
theorem dX0_write_17 : decode cX0_write 17 = .ok (.iload 4, 2) := by decide +kernel
theorem dX0_write_19 : decode cX0_write 19 = .ok (.iload_n 1, 1) := by decide +kernel
theorem dX0_write_20 : decode cX0_write 20 = .ok (.if_icmp .ge 13, 3) := by decide +kernel
theorem dX0_write_23 : decode cX0_write 23 = .ok (.iload_n 3, 1) := by decide +kernel
theorem dX0_write_24 : decode cX0_write 24 = .ok (.iconst 3, 1) := by decide +kernel
theorem dX0_write_25 : decode cX0_write 25 = .ok (.imul, 1) := by decide +kernel
theorem dX0_write_26 : decode cX0_write 26 = .ok (.istore_n 3, 1) := by decide +kernel
theorem dX0_write_27 : decode cX0_write 27 = .ok (.iinc 4 1, 3) := by decide +kernel
theorem dX0_write_30 : decode cX0_write 30 = .ok (.goto (-13), 3) := by decide +kernel
theorem dX0_write_33 : decode cX0_write 33 = .ok (.iload_n 2, 1) := by decide +kernel
theorem dX0_write_34 : decode cX0_write 34 = .ok (.ifCond .lt 8, 3) := by decide +kernel
theorem dX0_write_37 : decode cX0_write 37 = .ok (.iload_n 2, 1) := by decide +kernel
theorem dX0_write_38 : decode cX0_write 38 = .ok (.iload_n 3, 1) := by decide +kernel
theorem dX0_write_39 : decode cX0_write 39 = .ok (.if_icmp .lt 6, 3) := by decide +kernel
theorem dX0_write_42 : decode cX0_write 42 = .ok (.bipush (-2), 2) := by decide +kernel
theorem dX0_write_44 : decode cX0_write 44 = .ok (.ireturn, 1) := by decide +kernel
theorem dX0_write_45 : decode cX0_write 45 = .ok (.iload_n 2, 1) := by decide +kernel
theorem dX0_write_46 : decode cX0_write 46 = .ok (.istore 4, 2) := by decide +kernel
theorem dX0_write_48 : decode cX0_write 48 = .ok (.iload_n 1, 1) := by decide +kernel
theorem dX0_write_49 : decode cX0_write 49 = .ok (.iconst 1, 1) := by decide +kernel
theorem dX0_write_50 : decode cX0_write 50 = .ok (.isub, 1) := by decide +kernel
theorem dX0_write_51 : decode cX0_write 51 = .ok (.istore 5, 2) := by decide +kernel
theorem dX0_write_53 : decode cX0_write 53 = .ok (.iload 5, 2) := by decide +kernel
theorem dX0_write_55 : decode cX0_write 55 = .ok (.ifCond .lt 28, 3) := by decide +kernel
theorem dX0_write_58 : decode cX0_write 58 = .ok (.aload_n 0, 1) := by decide +kernel
theorem dX0_write_59 : decode cX0_write 59 = .ok (.getfield 19, 3) := by decide +kernel
theorem dX0_write_62 : decode cX0_write 62 = .ok (.iload 5, 2) := by decide +kernel
theorem dX0_write_64 : decode cX0_write 64 = .ok (.iconst 5, 1) := by decide +kernel
theorem dX0_write_65 : decode cX0_write 65 = .ok (.iload 4, 2) := by decide +kernel
theorem dX0_write_67 : decode cX0_write 67 = .ok (.iconst 3, 1) := by decide +kernel
theorem dX0_write_68 : decode cX0_write 68 = .ok (.irem, 1) := by decide +kernel
theorem dX0_write_69 : decode cX0_write 69 = .ok (.iadd, 1) := by decide +kernel
theorem dX0_write_70 : decode cX0_write 70 = .ok (.iastore, 1) := by decide +kernel
theorem dX0_write_71 : decode cX0_write 71 = .ok (.iload 4, 2) := by decide +kernel
theorem dX0_write_73 : decode cX0_write 73 = .ok (.iconst 3, 1) := by decide +kernel
theorem dX0_write_74 : decode cX0_write 74 = .ok (.idiv, 1) := by decide +kernel
theorem dX0_write_75 : decode cX0_write 75 = .ok (.istore 4, 2) := by decide +kernel
theorem dX0_write_77 : decode cX0_write 77 = .ok (.iinc 5 (-1), 3) := by decide +kernel
theorem dX0_write_80 : decode cX0_write 80 = .ok (.goto (-27), 3) := by decide +kernel
theorem dX0_write_83 : decode cX0_write 83 = .ok (.aload_n 0, 1) := by decide +kernel
theorem dX0_write_84 : decode cX0_write 84 = .ok (.iload_n 1, 1) := by decide +kernel
theorem dX0_write_85 : decode cX0_write 85 = .ok (.putfield 53, 3) := by decide +kernel
theorem dX0_write_88 : decode cX0_write 88 = .ok (.iload_n 1, 1) := by decide +kernel
theorem dX0_write_89 : decode cX0_write 89 = .ok (.ireturn, 1) := by decide +kernel
abbrev cX0_length : ByteArray := prog_1_method_9_code
def yX0_length : MethodName := ⟨RX0, "length", "()I"⟩
theorem dX0_length_0 : decode cX0_length 0 = .ok (.aload_n 0, 1) := by decide +kernel
theorem dX0_length_1 : decode cX0_length 1 = .ok (.getfield 53, 3) := by decide +kernel
theorem dX0_length_4 : decode cX0_length 4 = .ok (.ireturn, 1) := by decide +kernel
abbrev cX0_accepts : ByteArray := prog_1_method_10_code
def yX0_accepts : MethodName := ⟨RX0, "accepts", "()I"⟩
theorem dX0_accepts_0 : decode cX0_accepts 0 = .ok (.aload_n 0, 1) := by decide +kernel
theorem dX0_accepts_1 : decode cX0_accepts 1 = .ok (.iconst 0, 1) := by decide +kernel
theorem dX0_accepts_2 : decode cX0_accepts 2 = .ok (.iconst 0, 1) := by decide +kernel
theorem dX0_accepts_3 : decode cX0_accepts 3 = .ok (.invokevirtual 56, 3) := by decide +kernel
theorem dX0_accepts_6 : decode cX0_accepts 6 = .ok (.istore_n 1, 1) := by decide +kernel
theorem dX0_accepts_7 : decode cX0_accepts 7 = .ok (.iload_n 1, 1) := by decide +kernel
theorem dX0_accepts_8 : decode cX0_accepts 8 = .ok (.aload_n 0, 1) := by decide +kernel
theorem dX0_accepts_9 : decode cX0_accepts 9 = .ok (.getfield 53, 3) := by decide +kernel
theorem dX0_accepts_12 : decode cX0_accepts 12 = .ok (.ishr, 1) := by decide +kernel
theorem dX0_accepts_13 : decode cX0_accepts 13 = .ok (.iconst 1, 1) := by decide +kernel
theorem dX0_accepts_14 : decode cX0_accepts 14 = .ok (.iand, 1) := by decide +kernel
theorem dX0_accepts_15 : decode cX0_accepts 15 = .ok (.ireturn, 1) := by decide +kernel
abbrev cX0_endsOf : ByteArray := prog_1_method_24_code
def yX0_endsOf : MethodName := ⟨RX0, "endsOf", "(II)I"⟩
theorem dX0_endsOf_0 : decode cX0_endsOf 0 = .ok (.iload_n 1, 1) := by decide +kernel
theorem dX0_endsOf_1 : decode cX0_endsOf 1 = .ok (.iconst 5, 1) := by decide +kernel
theorem dX0_endsOf_2 : decode cX0_endsOf 2 = .ok (.if_icmp .lt 31, 3) := by decide +kernel
theorem dX0_endsOf_5 : decode cX0_endsOf 5 = .ok (.iload_n 2, 1) := by decide +kernel
theorem dX0_endsOf_6 : decode cX0_endsOf 6 = .ok (.aload_n 0, 1) := by decide +kernel
theorem dX0_endsOf_7 : decode cX0_endsOf 7 = .ok (.getfield 53, 3) := by decide +kernel
theorem dX0_endsOf_10 : decode cX0_endsOf 10 = .ok (.if_icmp .ge 21, 3) := by decide +kernel
theorem dX0_endsOf_13 : decode cX0_endsOf 13 = .ok (.aload_n 0, 1) := by decide +kernel
theorem dX0_endsOf_14 : decode cX0_endsOf 14 = .ok (.getfield 19, 3) := by decide +kernel
theorem dX0_endsOf_17 : decode cX0_endsOf 17 = .ok (.iload_n 2, 1) := by decide +kernel
theorem dX0_endsOf_18 : decode cX0_endsOf 18 = .ok (.iaload, 1) := by decide +kernel
theorem dX0_endsOf_19 : decode cX0_endsOf 19 = .ok (.iload_n 1, 1) := by decide +kernel
theorem dX0_endsOf_20 : decode cX0_endsOf 20 = .ok (.if_icmp .ne 11, 3) := by decide +kernel
theorem dX0_endsOf_23 : decode cX0_endsOf 23 = .ok (.iconst 1, 1) := by decide +kernel
theorem dX0_endsOf_24 : decode cX0_endsOf 24 = .ok (.iload_n 2, 1) := by decide +kernel
theorem dX0_endsOf_25 : decode cX0_endsOf 25 = .ok (.iconst 1, 1) := by decide +kernel
theorem dX0_endsOf_26 : decode cX0_endsOf 26 = .ok (.iadd, 1) := by decide +kernel
theorem dX0_endsOf_27 : decode cX0_endsOf 27 = .ok (.ishl, 1) := by decide +kernel
theorem dX0_endsOf_28 : decode cX0_endsOf 28 = .ok (.goto 4, 3) := by decide +kernel
theorem dX0_endsOf_31 : decode cX0_endsOf 31 = .ok (.iconst 0, 1) := by decide +kernel
theorem dX0_endsOf_32 : decode cX0_endsOf 32 = .ok (.ireturn, 1) := by decide +kernel
theorem dX0_endsOf_33 : decode cX0_endsOf 33 = .ok (.aload_n 0, 1) := by decide +kernel
theorem dX0_endsOf_34 : decode cX0_endsOf 34 = .ok (.invokevirtual 71, 3) := by decide +kernel
theorem dX0_endsOf_37 : decode cX0_endsOf 37 = .ok (.aload_n 0, 1) := by decide +kernel
theorem dX0_endsOf_38 : decode cX0_endsOf 38 = .ok (.bipush 9, 2) := by decide +kernel
theorem dX0_endsOf_40 : decode cX0_endsOf 40 = .ok (.iload_n 1, 1) := by decide +kernel
theorem dX0_endsOf_41 : decode cX0_endsOf 41 = .ok (.imul, 1) := by decide +kernel
theorem dX0_endsOf_42 : decode cX0_endsOf 42 = .ok (.iload_n 2, 1) := by decide +kernel
theorem dX0_endsOf_43 : decode cX0_endsOf 43 = .ok (.iadd, 1) := by decide +kernel
theorem dX0_endsOf_44 : decode cX0_endsOf 44 = .ok (.invokevirtual 74, 3) := by decide +kernel
theorem dX0_endsOf_47 : decode cX0_endsOf 47 = .ok (.aload_n 0, 1) := by decide +kernel
theorem dX0_endsOf_48 : decode cX0_endsOf 48 = .ok (.invokevirtual 78, 3) := by decide +kernel
theorem dX0_endsOf_51 : decode cX0_endsOf 51 = .ok (.aload_n 0, 1) := by decide +kernel
theorem dX0_endsOf_52 : decode cX0_endsOf 52 = .ok (.getfield 31, 3) := by decide +kernel
theorem dX0_endsOf_55 : decode cX0_endsOf 55 = .ok (.bipush 9, 2) := by decide +kernel
theorem dX0_endsOf_57 : decode cX0_endsOf 57 = .ok (.iload_n 1, 1) := by decide +kernel
theorem dX0_endsOf_58 : decode cX0_endsOf 58 = .ok (.imul, 1) := by decide +kernel
theorem dX0_endsOf_59 : decode cX0_endsOf 59 = .ok (.iload_n 2, 1) := by decide +kernel
theorem dX0_endsOf_60 : decode cX0_endsOf 60 = .ok (.iadd, 1) := by decide +kernel
theorem dX0_endsOf_61 : decode cX0_endsOf 61 = .ok (.iaload, 1) := by decide +kernel
theorem dX0_endsOf_62 : decode cX0_endsOf 62 = .ok (.ireturn, 1) := by decide +kernel
abbrev cX0_start : ByteArray := prog_1_method_25_code
def yX0_start : MethodName := ⟨RX0, "start", "()V"⟩
theorem dX0_start_0 : decode cX0_start 0 = .ok (.aload_n 0, 1) := by decide +kernel
theorem dX0_start_1 : decode cX0_start 1 = .ok (.iconst 0, 1) := by decide +kernel
theorem dX0_start_2 : decode cX0_start 2 = .ok (.putfield 81, 3) := by decide +kernel
theorem dX0_start_5 : decode cX0_start 5 = .ok (.iconst 0, 1) := by decide +kernel
theorem dX0_start_6 : decode cX0_start 6 = .ok (.istore_n 1, 1) := by decide +kernel
theorem dX0_start_7 : decode cX0_start 7 = .ok (.iload_n 1, 1) := by decide +kernel
theorem dX0_start_8 : decode cX0_start 8 = .ok (.sipush 608, 3) := by decide +kernel
theorem dX0_start_11 : decode cX0_start 11 = .ok (.if_icmp .ge 23, 3) := by decide +kernel
theorem dX0_start_14 : decode cX0_start 14 = .ok (.aload_n 0, 1) := by decide +kernel
theorem dX0_start_15 : decode cX0_start 15 = .ok (.getfield 22, 3) := by decide +kernel
theorem dX0_start_18 : decode cX0_start 18 = .ok (.iload_n 1, 1) := by decide +kernel
theorem dX0_start_19 : decode cX0_start 19 = .ok (.iconst 0, 1) := by decide +kernel
theorem dX0_start_20 : decode cX0_start 20 = .ok (.iastore, 1) := by decide +kernel
theorem dX0_start_21 : decode cX0_start 21 = .ok (.aload_n 0, 1) := by decide +kernel
theorem dX0_start_22 : decode cX0_start 22 = .ok (.getfield 25, 3) := by decide +kernel
theorem dX0_start_25 : decode cX0_start 25 = .ok (.iload_n 1, 1) := by decide +kernel
theorem dX0_start_26 : decode cX0_start 26 = .ok (.iconst 0, 1) := by decide +kernel
theorem dX0_start_27 : decode cX0_start 27 = .ok (.iastore, 1) := by decide +kernel
theorem dX0_start_28 : decode cX0_start 28 = .ok (.iinc 1 1, 3) := by decide +kernel
theorem dX0_start_31 : decode cX0_start 31 = .ok (.goto (-24), 3) := by decide +kernel
theorem dX0_start_34 : decode cX0_start 34 = .ok (.iconst 0, 1) := by decide +kernel
theorem dX0_start_35 : decode cX0_start 35 = .ok (.istore_n 1, 1) := by decide +kernel
theorem dX0_start_36 : decode cX0_start 36 = .ok (.iload_n 1, 1) := by decide +kernel
theorem dX0_start_37 : decode cX0_start 37 = .ok (.sipush 3060, 3) := by decide +kernel
theorem dX0_start_40 : decode cX0_start 40 = .ok (.if_icmp .ge 16, 3) := by decide +kernel
theorem dX0_start_43 : decode cX0_start 43 = .ok (.aload_n 0, 1) := by decide +kernel
theorem dX0_start_44 : decode cX0_start 44 = .ok (.getfield 28, 3) := by decide +kernel
theorem dX0_start_47 : decode cX0_start 47 = .ok (.iload_n 1, 1) := by decide +kernel
theorem dX0_start_48 : decode cX0_start 48 = .ok (.iconst 0, 1) := by decide +kernel
theorem dX0_start_49 : decode cX0_start 49 = .ok (.iastore, 1) := by decide +kernel
theorem dX0_start_50 : decode cX0_start 50 = .ok (.iinc 1 1, 3) := by decide +kernel
theorem dX0_start_53 : decode cX0_start 53 = .ok (.goto (-17), 3) := by decide +kernel
theorem dX0_start_56 : decode cX0_start 56 = .ok (.iconst 0, 1) := by decide +kernel
theorem dX0_start_57 : decode cX0_start 57 = .ok (.istore_n 1, 1) := by decide +kernel
theorem dX0_start_58 : decode cX0_start 58 = .ok (.iload_n 1, 1) := by decide +kernel
theorem dX0_start_59 : decode cX0_start 59 = .ok (.bipush 45, 2) := by decide +kernel
theorem dX0_start_61 : decode cX0_start 61 = .ok (.if_icmp .ge 23, 3) := by decide +kernel
theorem dX0_start_64 : decode cX0_start 64 = .ok (.aload_n 0, 1) := by decide +kernel
theorem dX0_start_65 : decode cX0_start 65 = .ok (.getfield 31, 3) := by decide +kernel
theorem dX0_start_68 : decode cX0_start 68 = .ok (.iload_n 1, 1) := by decide +kernel
theorem dX0_start_69 : decode cX0_start 69 = .ok (.iconst 0, 1) := by decide +kernel
theorem dX0_start_70 : decode cX0_start 70 = .ok (.iastore, 1) := by decide +kernel
theorem dX0_start_71 : decode cX0_start 71 = .ok (.aload_n 0, 1) := by decide +kernel
theorem dX0_start_72 : decode cX0_start 72 = .ok (.getfield 34, 3) := by decide +kernel
theorem dX0_start_75 : decode cX0_start 75 = .ok (.iload_n 1, 1) := by decide +kernel
theorem dX0_start_76 : decode cX0_start 76 = .ok (.iconst 0, 1) := by decide +kernel
theorem dX0_start_77 : decode cX0_start 77 = .ok (.bastore, 1) := by decide +kernel
theorem dX0_start_78 : decode cX0_start 78 = .ok (.iinc 1 1, 3) := by decide +kernel
theorem dX0_start_81 : decode cX0_start 81 = .ok (.goto (-23), 3) := by decide +kernel
theorem dX0_start_84 : decode cX0_start 84 = .ok (.return_, 1) := by decide +kernel
abbrev cX0_call : ByteArray := prog_1_method_26_code
def yX0_call : MethodName := ⟨RX0, "call", "(I)V"⟩
theorem dX0_call_0 : decode cX0_call 0 = .ok (.aload_n 0, 1) := by decide +kernel
theorem dX0_call_1 : decode cX0_call 1 = .ok (.getfield 34, 3) := by decide +kernel
theorem dX0_call_4 : decode cX0_call 4 = .ok (.iload_n 1, 1) := by decide +kernel
theorem dX0_call_5 : decode cX0_call 5 = .ok (.baload, 1) := by decide +kernel
theorem dX0_call_6 : decode cX0_call 6 = .ok (.ifCond .eq 4, 3) := by decide +kernel
theorem dX0_call_9 : decode cX0_call 9 = .ok (.return_, 1) := by decide +kernel
theorem dX0_call_10 : decode cX0_call 10 = .ok (.aload_n 0, 1) := by decide +kernel
theorem dX0_call_11 : decode cX0_call 11 = .ok (.getfield 34, 3) := by decide +kernel
theorem dX0_call_14 : decode cX0_call 14 = .ok (.iload_n 1, 1) := by decide +kernel
theorem dX0_call_15 : decode cX0_call 15 = .ok (.iconst 1, 1) := by decide +kernel
theorem dX0_call_16 : decode cX0_call 16 = .ok (.bastore, 1) := by decide +kernel
theorem dX0_call_17 : decode cX0_call 17 = .ok (.iconst 0, 1) := by decide +kernel
theorem dX0_call_18 : decode cX0_call 18 = .ok (.istore_n 2, 1) := by decide +kernel
theorem dX0_call_19 : decode cX0_call 19 = .ok (.iload_n 2, 1) := by decide +kernel
theorem dX0_call_20 : decode cX0_call 20 = .ok (.aload_n 0, 1) := by decide +kernel
theorem dX0_call_21 : decode cX0_call 21 = .ok (.getfield 38, 3) := by decide +kernel
theorem dX0_call_24 : decode cX0_call 24 = .ok (.if_icmp .ge 34, 3) := by decide +kernel
theorem dX0_call_27 : decode cX0_call 27 = .ok (.aload_n 0, 1) := by decide +kernel
theorem dX0_call_28 : decode cX0_call 28 = .ok (.getfield 7, 3) := by decide +kernel
theorem dX0_call_31 : decode cX0_call 31 = .ok (.iload_n 2, 1) := by decide +kernel
theorem dX0_call_32 : decode cX0_call 32 = .ok (.iaload, 1) := by decide +kernel
theorem dX0_call_33 : decode cX0_call 33 = .ok (.iload_n 1, 1) := by decide +kernel
theorem dX0_call_34 : decode cX0_call 34 = .ok (.bipush 9, 2) := by decide +kernel
theorem dX0_call_36 : decode cX0_call 36 = .ok (.idiv, 1) := by decide +kernel
theorem dX0_call_37 : decode cX0_call 37 = .ok (.if_icmp .ne 15, 3) := by decide +kernel
theorem dX0_call_40 : decode cX0_call 40 = .ok (.aload_n 0, 1) := by decide +kernel
theorem dX0_call_41 : decode cX0_call 41 = .ok (.iconst 4, 1) := by decide +kernel
theorem dX0_call_42 : decode cX0_call 42 = .ok (.iload_n 2, 1) := by decide +kernel
theorem dX0_call_43 : decode cX0_call 43 = .ok (.imul, 1) := by decide +kernel
theorem dX0_call_44 : decode cX0_call 44 = .ok (.iload_n 1, 1) := by decide +kernel
theorem dX0_call_45 : decode cX0_call 45 = .ok (.iload_n 1, 1) := by decide +kernel
theorem dX0_call_46 : decode cX0_call 46 = .ok (.bipush 9, 2) := by decide +kernel
theorem dX0_call_48 : decode cX0_call 48 = .ok (.irem, 1) := by decide +kernel
theorem dX0_call_49 : decode cX0_call 49 = .ok (.invokevirtual 84, 3) := by decide +kernel
theorem dX0_call_52 : decode cX0_call 52 = .ok (.iinc 2 1, 3) := by decide +kernel
theorem dX0_call_55 : decode cX0_call 55 = .ok (.goto (-36), 3) := by decide +kernel
theorem dX0_call_58 : decode cX0_call 58 = .ok (.return_, 1) := by decide +kernel
abbrev cX0_add : ByteArray := prog_1_method_27_code
def yX0_add : MethodName := ⟨RX0, "add", "(III)V"⟩
theorem dX0_add_0 : decode cX0_add 0 = .ok (.iload_n 1, 1) := by decide +kernel
theorem dX0_add_1 : decode cX0_add 1 = .ok (.bipush 45, 2) := by decide +kernel
theorem dX0_add_3 : decode cX0_add 3 = .ok (.imul, 1) := by decide +kernel
theorem dX0_add_4 : decode cX0_add 4 = .ok (.iload_n 2, 1) := by decide +kernel
theorem dX0_add_5 : decode cX0_add 5 = .ok (.iadd, 1) := by decide +kernel
theorem dX0_add_6 : decode cX0_add 6 = .ok (.bipush 9, 2) := by decide +kernel
theorem dX0_add_8 : decode cX0_add 8 = .ok (.imul, 1) := by decide +kernel
theorem dX0_add_9 : decode cX0_add 9 = .ok (.iload_n 3, 1) := by decide +kernel
theorem dX0_add_10 : decode cX0_add 10 = .ok (.iadd, 1) := by decide +kernel
theorem dX0_add_11 : decode cX0_add 11 = .ok (.istore 4, 2) := by decide +kernel
theorem dX0_add_13 : decode cX0_add 13 = .ok (.iconst 1, 1) := by decide +kernel
theorem dX0_add_14 : decode cX0_add 14 = .ok (.iload 4, 2) := by decide +kernel
theorem dX0_add_16 : decode cX0_add 16 = .ok (.bipush 31, 2) := by decide +kernel
theorem dX0_add_18 : decode cX0_add 18 = .ok (.iand, 1) := by decide +kernel
theorem dX0_add_19 : decode cX0_add 19 = .ok (.ishl, 1) := by decide +kernel
theorem dX0_add_20 : decode cX0_add 20 = .ok (.istore 5, 2) := by decide +kernel
theorem dX0_add_22 : decode cX0_add 22 = .ok (.aload_n 0, 1) := by decide +kernel
theorem dX0_add_23 : decode cX0_add 23 = .ok (.getfield 22, 3) := by decide +kernel
theorem dX0_add_26 : decode cX0_add 26 = .ok (.iload 4, 2) := by decide +kernel
theorem dX0_add_28 : decode cX0_add 28 = .ok (.iconst 5, 1) := by decide +kernel
theorem dX0_add_29 : decode cX0_add 29 = .ok (.ishr, 1) := by decide +kernel
theorem dX0_add_30 : decode cX0_add 30 = .ok (.iaload, 1) := by decide +kernel
theorem dX0_add_31 : decode cX0_add 31 = .ok (.iload 5, 2) := by decide +kernel
theorem dX0_add_33 : decode cX0_add 33 = .ok (.iand, 1) := by decide +kernel
theorem dX0_add_34 : decode cX0_add 34 = .ok (.ifCond .ne 55, 3) := by decide +kernel
theorem dX0_add_37 : decode cX0_add 37 = .ok (.aload_n 0, 1) := by decide +kernel
theorem dX0_add_38 : decode cX0_add 38 = .ok (.getfield 22, 3) := by decide +kernel
theorem dX0_add_41 : decode cX0_add 41 = .ok (.iload 4, 2) := by decide +kernel
theorem dX0_add_43 : decode cX0_add 43 = .ok (.iconst 5, 1) := by decide +kernel
theorem dX0_add_44 : decode cX0_add 44 = .ok (.ishr, 1) := by decide +kernel
theorem dX0_add_45 : decode cX0_add 45 = .ok (.aload_n 0, 1) := by decide +kernel
theorem dX0_add_46 : decode cX0_add 46 = .ok (.getfield 22, 3) := by decide +kernel
theorem dX0_add_49 : decode cX0_add 49 = .ok (.iload 4, 2) := by decide +kernel
theorem dX0_add_51 : decode cX0_add 51 = .ok (.iconst 5, 1) := by decide +kernel
theorem dX0_add_52 : decode cX0_add 52 = .ok (.ishr, 1) := by decide +kernel
theorem dX0_add_53 : decode cX0_add 53 = .ok (.iaload, 1) := by decide +kernel
theorem dX0_add_54 : decode cX0_add 54 = .ok (.iload 5, 2) := by decide +kernel
theorem dX0_add_56 : decode cX0_add 56 = .ok (.ior, 1) := by decide +kernel
theorem dX0_add_57 : decode cX0_add 57 = .ok (.iastore, 1) := by decide +kernel
theorem dX0_add_58 : decode cX0_add 58 = .ok (.aload_n 0, 1) := by decide +kernel
theorem dX0_add_59 : decode cX0_add 59 = .ok (.getfield 25, 3) := by decide +kernel
theorem dX0_add_62 : decode cX0_add 62 = .ok (.iload 4, 2) := by decide +kernel
theorem dX0_add_64 : decode cX0_add 64 = .ok (.iconst 5, 1) := by decide +kernel
theorem dX0_add_65 : decode cX0_add 65 = .ok (.ishr, 1) := by decide +kernel
theorem dX0_add_66 : decode cX0_add 66 = .ok (.aload_n 0, 1) := by decide +kernel
theorem dX0_add_67 : decode cX0_add 67 = .ok (.getfield 25, 3) := by decide +kernel
theorem dX0_add_70 : decode cX0_add 70 = .ok (.iload 4, 2) := by decide +kernel
theorem dX0_add_72 : decode cX0_add 72 = .ok (.iconst 5, 1) := by decide +kernel
theorem dX0_add_73 : decode cX0_add 73 = .ok (.ishr, 1) := by decide +kernel
theorem dX0_add_74 : decode cX0_add 74 = .ok (.iaload, 1) := by decide +kernel
theorem dX0_add_75 : decode cX0_add 75 = .ok (.iload 5, 2) := by decide +kernel
theorem dX0_add_77 : decode cX0_add 77 = .ok (.ior, 1) := by decide +kernel
theorem dX0_add_78 : decode cX0_add 78 = .ok (.iastore, 1) := by decide +kernel
theorem dX0_add_79 : decode cX0_add 79 = .ok (.aload_n 0, 1) := by decide +kernel
theorem dX0_add_80 : decode cX0_add 80 = .ok (.dup, 1) := by decide +kernel
theorem dX0_add_81 : decode cX0_add 81 = .ok (.getfield 81, 3) := by decide +kernel
theorem dX0_add_84 : decode cX0_add 84 = .ok (.iconst 1, 1) := by decide +kernel
theorem dX0_add_85 : decode cX0_add 85 = .ok (.iadd, 1) := by decide +kernel
theorem dX0_add_86 : decode cX0_add 86 = .ok (.putfield 81, 3) := by decide +kernel
theorem dX0_add_89 : decode cX0_add 89 = .ok (.return_, 1) := by decide +kernel
abbrev cX0_run : ByteArray := prog_1_method_28_code
def yX0_run : MethodName := ⟨RX0, "run", "()V"⟩
theorem dX0_run_0 : decode cX0_run 0 = .ok (.iconst 0, 1) := by decide +kernel
theorem dX0_run_1 : decode cX0_run 1 = .ok (.istore_n 1, 1) := by decide +kernel
theorem dX0_run_2 : decode cX0_run 2 = .ok (.iload_n 1, 1) := by decide +kernel
theorem dX0_run_3 : decode cX0_run 3 = .ok (.sipush 19441, 3) := by decide +kernel
theorem dX0_run_6 : decode cX0_run 6 = .ok (.if_icmp .ge 45, 3) := by decide +kernel
theorem dX0_run_9 : decode cX0_run 9 = .ok (.aload_n 0, 1) := by decide +kernel
theorem dX0_run_10 : decode cX0_run 10 = .ok (.getfield 81, 3) := by decide +kernel
theorem dX0_run_13 : decode cX0_run 13 = .ok (.ifCond .le 38, 3) := by decide +kernel
theorem dX0_run_16 : decode cX0_run 16 = .ok (.iconst 0, 1) := by decide +kernel
theorem dX0_run_17 : decode cX0_run 17 = .ok (.istore_n 2, 1) := by decide +kernel
theorem dX0_run_18 : decode cX0_run 18 = .ok (.iload_n 2, 1) := by decide +kernel
theorem dX0_run_19 : decode cX0_run 19 = .ok (.sipush 608, 3) := by decide +kernel
theorem dX0_run_22 : decode cX0_run 22 = .ok (.if_icmp .ge 23, 3) := by decide +kernel
theorem dX0_run_25 : decode cX0_run 25 = .ok (.aload_n 0, 1) := by decide +kernel
theorem dX0_run_26 : decode cX0_run 26 = .ok (.getfield 25, 3) := by decide +kernel
theorem dX0_run_29 : decode cX0_run 29 = .ok (.iload_n 2, 1) := by decide +kernel
theorem dX0_run_30 : decode cX0_run 30 = .ok (.iaload, 1) := by decide +kernel
theorem dX0_run_31 : decode cX0_run 31 = .ok (.ifCond .eq 8, 3) := by decide +kernel
theorem dX0_run_34 : decode cX0_run 34 = .ok (.aload_n 0, 1) := by decide +kernel
theorem dX0_run_35 : decode cX0_run 35 = .ok (.iload_n 2, 1) := by decide +kernel
theorem dX0_run_36 : decode cX0_run 36 = .ok (.invokevirtual 88, 3) := by decide +kernel
theorem dX0_run_39 : decode cX0_run 39 = .ok (.iinc 2 1, 3) := by decide +kernel
theorem dX0_run_42 : decode cX0_run 42 = .ok (.goto (-24), 3) := by decide +kernel
theorem dX0_run_45 : decode cX0_run 45 = .ok (.iinc 1 1, 3) := by decide +kernel
theorem dX0_run_48 : decode cX0_run 48 = .ok (.goto (-46), 3) := by decide +kernel
theorem dX0_run_51 : decode cX0_run 51 = .ok (.return_, 1) := by decide +kernel
abbrev cX0_handleWord : ByteArray := prog_1_method_29_code
def yX0_handleWord : MethodName := ⟨RX0, "handleWord", "(I)V"⟩
theorem dX0_handleWord_0 : decode cX0_handleWord 0 = .ok (.iconst 0, 1) := by decide +kernel
theorem dX0_handleWord_1 : decode cX0_handleWord 1 = .ok (.istore_n 2, 1) := by decide +kernel
theorem dX0_handleWord_2 : decode cX0_handleWord 2 = .ok (.iload_n 2, 1) := by decide +kernel
theorem dX0_handleWord_3 : decode cX0_handleWord 3 = .ok (.bipush 32, 2) := by decide +kernel
theorem dX0_handleWord_5 : decode cX0_handleWord 5 = .ok (.if_icmp .ge 82, 3) := by decide +kernel
theorem dX0_handleWord_8 : decode cX0_handleWord 8 = .ok (.aload_n 0, 1) := by decide +kernel
theorem dX0_handleWord_9 : decode cX0_handleWord 9 = .ok (.getfield 25, 3) := by decide +kernel
theorem dX0_handleWord_12 : decode cX0_handleWord 12 = .ok (.iload_n 1, 1) := by decide +kernel
theorem dX0_handleWord_13 : decode cX0_handleWord 13 = .ok (.iaload, 1) := by decide +kernel
theorem dX0_handleWord_14 : decode cX0_handleWord 14 = .ok (.iload_n 2, 1) := by decide +kernel
theorem dX0_handleWord_15 : decode cX0_handleWord 15 = .ok (.iushr, 1) := by decide +kernel
theorem dX0_handleWord_16 : decode cX0_handleWord 16 = .ok (.iconst 1, 1) := by decide +kernel
theorem dX0_handleWord_17 : decode cX0_handleWord 17 = .ok (.iand, 1) := by decide +kernel
theorem dX0_handleWord_18 : decode cX0_handleWord 18 = .ok (.iconst 1, 1) := by decide +kernel
theorem dX0_handleWord_19 : decode cX0_handleWord 19 = .ok (.if_icmp .ne 62, 3) := by decide +kernel
theorem dX0_handleWord_22 : decode cX0_handleWord 22 = .ok (.aload_n 0, 1) := by decide +kernel
theorem dX0_handleWord_23 : decode cX0_handleWord 23 = .ok (.getfield 25, 3) := by decide +kernel
theorem dX0_handleWord_26 : decode cX0_handleWord 26 = .ok (.iload_n 1, 1) := by decide +kernel
theorem dX0_handleWord_27 : decode cX0_handleWord 27 = .ok (.aload_n 0, 1) := by decide +kernel
theorem dX0_handleWord_28 : decode cX0_handleWord 28 = .ok (.getfield 25, 3) := by decide +kernel
theorem dX0_handleWord_31 : decode cX0_handleWord 31 = .ok (.iload_n 1, 1) := by decide +kernel
theorem dX0_handleWord_32 : decode cX0_handleWord 32 = .ok (.iaload, 1) := by decide +kernel
theorem dX0_handleWord_33 : decode cX0_handleWord 33 = .ok (.iconst 1, 1) := by decide +kernel
theorem dX0_handleWord_34 : decode cX0_handleWord 34 = .ok (.iload_n 2, 1) := by decide +kernel
theorem dX0_handleWord_35 : decode cX0_handleWord 35 = .ok (.ishl, 1) := by decide +kernel
theorem dX0_handleWord_36 : decode cX0_handleWord 36 = .ok (.iconst (-1), 1) := by decide +kernel
theorem dX0_handleWord_37 : decode cX0_handleWord 37 = .ok (.ixor, 1) := by decide +kernel
theorem dX0_handleWord_38 : decode cX0_handleWord 38 = .ok (.iand, 1) := by decide +kernel
theorem dX0_handleWord_39 : decode cX0_handleWord 39 = .ok (.iastore, 1) := by decide +kernel
theorem dX0_handleWord_40 : decode cX0_handleWord 40 = .ok (.aload_n 0, 1) := by decide +kernel
theorem dX0_handleWord_41 : decode cX0_handleWord 41 = .ok (.dup, 1) := by decide +kernel
theorem dX0_handleWord_42 : decode cX0_handleWord 42 = .ok (.getfield 81, 3) := by decide +kernel
theorem dX0_handleWord_45 : decode cX0_handleWord 45 = .ok (.iconst 1, 1) := by decide +kernel
theorem dX0_handleWord_46 : decode cX0_handleWord 46 = .ok (.isub, 1) := by decide +kernel
theorem dX0_handleWord_47 : decode cX0_handleWord 47 = .ok (.putfield 81, 3) := by decide +kernel
theorem dX0_handleWord_50 : decode cX0_handleWord 50 = .ok (.bipush 32, 2) := by decide +kernel
theorem dX0_handleWord_52 : decode cX0_handleWord 52 = .ok (.iload_n 1, 1) := by decide +kernel
theorem dX0_handleWord_53 : decode cX0_handleWord 53 = .ok (.imul, 1) := by decide +kernel
theorem dX0_handleWord_54 : decode cX0_handleWord 54 = .ok (.iload_n 2, 1) := by decide +kernel
theorem dX0_handleWord_55 : decode cX0_handleWord 55 = .ok (.iadd, 1) := by decide +kernel
theorem dX0_handleWord_56 : decode cX0_handleWord 56 = .ok (.istore_n 3, 1) := by decide +kernel
theorem dX0_handleWord_57 : decode cX0_handleWord 57 = .ok (.iload_n 3, 1) := by decide +kernel
theorem dX0_handleWord_58 : decode cX0_handleWord 58 = .ok (.bipush 9, 2) := by decide +kernel
theorem dX0_handleWord_60 : decode cX0_handleWord 60 = .ok (.idiv, 1) := by decide +kernel
theorem dX0_handleWord_61 : decode cX0_handleWord 61 = .ok (.istore 4, 2) := by decide +kernel
theorem dX0_handleWord_63 : decode cX0_handleWord 63 = .ok (.aload_n 0, 1) := by decide +kernel
theorem dX0_handleWord_64 : decode cX0_handleWord 64 = .ok (.iload 4, 2) := by decide +kernel
theorem dX0_handleWord_66 : decode cX0_handleWord 66 = .ok (.bipush 45, 2) := by decide +kernel
theorem dX0_handleWord_68 : decode cX0_handleWord 68 = .ok (.idiv, 1) := by decide +kernel
theorem dX0_handleWord_69 : decode cX0_handleWord 69 = .ok (.iload 4, 2) := by decide +kernel
theorem dX0_handleWord_71 : decode cX0_handleWord 71 = .ok (.bipush 45, 2) := by decide +kernel
theorem dX0_handleWord_73 : decode cX0_handleWord 73 = .ok (.irem, 1) := by decide +kernel
theorem dX0_handleWord_74 : decode cX0_handleWord 74 = .ok (.iload_n 3, 1) := by decide +kernel
theorem dX0_handleWord_75 : decode cX0_handleWord 75 = .ok (.bipush 9, 2) := by decide +kernel
theorem dX0_handleWord_77 : decode cX0_handleWord 77 = .ok (.irem, 1) := by decide +kernel
theorem dX0_handleWord_78 : decode cX0_handleWord 78 = .ok (.invokevirtual 91, 3) := by decide +kernel
theorem dX0_handleWord_81 : decode cX0_handleWord 81 = .ok (.iinc 2 1, 3) := by decide +kernel
theorem dX0_handleWord_84 : decode cX0_handleWord 84 = .ok (.goto (-82), 3) := by decide +kernel
theorem dX0_handleWord_87 : decode cX0_handleWord 87 = .ok (.return_, 1) := by decide +kernel
abbrev cX0_handle : ByteArray := prog_1_method_30_code
def yX0_handle : MethodName := ⟨RX0, "handle", "(III)V"⟩
theorem dX0_handle_0 : decode cX0_handle 0 = .ok (.iload_n 1, 1) := by decide +kernel
theorem dX0_handle_1 : decode cX0_handle 1 = .ok (.iconst 2, 1) := by decide +kernel
theorem dX0_handle_2 : decode cX0_handle 2 = .ok (.ishr, 1) := by decide +kernel
theorem dX0_handle_3 : decode cX0_handle 3 = .ok (.istore 4, 2) := by decide +kernel
theorem dX0_handle_5 : decode cX0_handle 5 = .ok (.iload_n 1, 1) := by decide +kernel
theorem dX0_handle_6 : decode cX0_handle 6 = .ok (.iconst 3, 1) := by decide +kernel
theorem dX0_handle_7 : decode cX0_handle 7 = .ok (.iand, 1) := by decide +kernel
theorem dX0_handle_8 : decode cX0_handle 8 = .ok (.istore 5, 2) := by decide +kernel
theorem dX0_handle_10 : decode cX0_handle 10 = .ok (.iload 5, 2) := by decide +kernel
theorem dX0_handle_12 : decode cX0_handle 12 = .ok (.aload_n 0, 1) := by decide +kernel
theorem dX0_handle_13 : decode cX0_handle 13 = .ok (.getfield 16, 3) := by decide +kernel
theorem dX0_handle_16 : decode cX0_handle 16 = .ok (.iload 4, 2) := by decide +kernel
theorem dX0_handle_18 : decode cX0_handle 18 = .ok (.iaload, 1) := by decide +kernel
theorem dX0_handle_19 : decode cX0_handle 19 = .ok (.if_icmp .ne 10, 3) := by decide +kernel
theorem dX0_handle_22 : decode cX0_handle 22 = .ok (.aload_n 0, 1) := by decide +kernel
theorem dX0_handle_23 : decode cX0_handle 23 = .ok (.iload_n 2, 1) := by decide +kernel
theorem dX0_handle_24 : decode cX0_handle 24 = .ok (.iload_n 3, 1) := by decide +kernel
theorem dX0_handle_25 : decode cX0_handle 25 = .ok (.invokevirtual 94, 3) := by decide +kernel
theorem dX0_handle_28 : decode cX0_handle 28 = .ok (.return_, 1) := by decide +kernel
theorem dX0_handle_29 : decode cX0_handle 29 = .ok (.aload_n 0, 1) := by decide +kernel
theorem dX0_handle_30 : decode cX0_handle 30 = .ok (.getfield 13, 3) := by decide +kernel
theorem dX0_handle_33 : decode cX0_handle 33 = .ok (.iconst 3, 1) := by decide +kernel
theorem dX0_handle_34 : decode cX0_handle 34 = .ok (.iload 4, 2) := by decide +kernel
theorem dX0_handle_36 : decode cX0_handle 36 = .ok (.imul, 1) := by decide +kernel
theorem dX0_handle_37 : decode cX0_handle 37 = .ok (.iload 5, 2) := by decide +kernel
theorem dX0_handle_39 : decode cX0_handle 39 = .ok (.iadd, 1) := by decide +kernel
theorem dX0_handle_40 : decode cX0_handle 40 = .ok (.iaload, 1) := by decide +kernel
theorem dX0_handle_41 : decode cX0_handle 41 = .ok (.istore 6, 2) := by decide +kernel
theorem dX0_handle_43 : decode cX0_handle 43 = .ok (.iload 6, 2) := by decide +kernel
theorem dX0_handle_45 : decode cX0_handle 45 = .ok (.iconst 5, 1) := by decide +kernel
theorem dX0_handle_46 : decode cX0_handle 46 = .ok (.if_icmp .lt 34, 3) := by decide +kernel
theorem dX0_handle_49 : decode cX0_handle 49 = .ok (.iload_n 3, 1) := by decide +kernel
theorem dX0_handle_50 : decode cX0_handle 50 = .ok (.aload_n 0, 1) := by decide +kernel
theorem dX0_handle_51 : decode cX0_handle 51 = .ok (.getfield 53, 3) := by decide +kernel
theorem dX0_handle_54 : decode cX0_handle 54 = .ok (.if_icmp .ge 25, 3) := by decide +kernel
theorem dX0_handle_57 : decode cX0_handle 57 = .ok (.aload_n 0, 1) := by decide +kernel
theorem dX0_handle_58 : decode cX0_handle 58 = .ok (.getfield 19, 3) := by decide +kernel
theorem dX0_handle_61 : decode cX0_handle 61 = .ok (.iload_n 3, 1) := by decide +kernel
theorem dX0_handle_62 : decode cX0_handle 62 = .ok (.iaload, 1) := by decide +kernel
theorem dX0_handle_63 : decode cX0_handle 63 = .ok (.iload 6, 2) := by decide +kernel
theorem dX0_handle_65 : decode cX0_handle 65 = .ok (.if_icmp .ne 14, 3) := by decide +kernel
theorem dX0_handle_68 : decode cX0_handle 68 = .ok (.aload_n 0, 1) := by decide +kernel
theorem dX0_handle_69 : decode cX0_handle 69 = .ok (.iload_n 1, 1) := by decide +kernel
theorem dX0_handle_70 : decode cX0_handle 70 = .ok (.iconst 1, 1) := by decide +kernel
theorem dX0_handle_71 : decode cX0_handle 71 = .ok (.iadd, 1) := by decide +kernel
theorem dX0_handle_72 : decode cX0_handle 72 = .ok (.iload_n 2, 1) := by decide +kernel
theorem dX0_handle_73 : decode cX0_handle 73 = .ok (.iload_n 3, 1) := by decide +kernel
theorem dX0_handle_74 : decode cX0_handle 74 = .ok (.iconst 1, 1) := by decide +kernel
theorem dX0_handle_75 : decode cX0_handle 75 = .ok (.iadd, 1) := by decide +kernel
theorem dX0_handle_76 : decode cX0_handle 76 = .ok (.invokevirtual 84, 3) := by decide +kernel
theorem dX0_handle_79 : decode cX0_handle 79 = .ok (.return_, 1) := by decide +kernel
theorem dX0_handle_80 : decode cX0_handle 80 = .ok (.aload_n 0, 1) := by decide +kernel
theorem dX0_handle_81 : decode cX0_handle 81 = .ok (.bipush 9, 2) := by decide +kernel
theorem dX0_handle_83 : decode cX0_handle 83 = .ok (.iload 6, 2) := by decide +kernel
theorem dX0_handle_85 : decode cX0_handle 85 = .ok (.imul, 1) := by decide +kernel
theorem dX0_handle_86 : decode cX0_handle 86 = .ok (.iload_n 3, 1) := by decide +kernel
theorem dX0_handle_87 : decode cX0_handle 87 = .ok (.iadd, 1) := by decide +kernel
theorem dX0_handle_88 : decode cX0_handle 88 = .ok (.iload_n 1, 1) := by decide +kernel
theorem dX0_handle_89 : decode cX0_handle 89 = .ok (.iconst 1, 1) := by decide +kernel
theorem dX0_handle_90 : decode cX0_handle 90 = .ok (.iadd, 1) := by decide +kernel
theorem dX0_handle_91 : decode cX0_handle 91 = .ok (.iload_n 2, 1) := by decide +kernel
theorem dX0_handle_92 : decode cX0_handle 92 = .ok (.invokevirtual 98, 3) := by decide +kernel
theorem dX0_handle_95 : decode cX0_handle 95 = .ok (.return_, 1) := by decide +kernel
abbrev cX0_finish : ByteArray := prog_1_method_31_code
def yX0_finish : MethodName := ⟨RX0, "finish", "(II)V"⟩
theorem dX0_finish_0 : decode cX0_finish 0 = .ok (.aload_n 0, 1) := by decide +kernel
theorem dX0_finish_1 : decode cX0_finish 1 = .ok (.getfield 31, 3) := by decide +kernel
theorem dX0_finish_4 : decode cX0_finish 4 = .ok (.iload_n 1, 1) := by decide +kernel
theorem dX0_finish_5 : decode cX0_finish 5 = .ok (.iaload, 1) := by decide +kernel
theorem dX0_finish_6 : decode cX0_finish 6 = .ok (.iload_n 2, 1) := by decide +kernel
theorem dX0_finish_7 : decode cX0_finish 7 = .ok (.ishr, 1) := by decide +kernel
theorem dX0_finish_8 : decode cX0_finish 8 = .ok (.iconst 1, 1) := by decide +kernel
theorem dX0_finish_9 : decode cX0_finish 9 = .ok (.iand, 1) := by decide +kernel
theorem dX0_finish_10 : decode cX0_finish 10 = .ok (.iconst 1, 1) := by decide +kernel
theorem dX0_finish_11 : decode cX0_finish 11 = .ok (.if_icmp .ne 4, 3) := by decide +kernel
theorem dX0_finish_14 : decode cX0_finish 14 = .ok (.return_, 1) := by decide +kernel
theorem dX0_finish_15 : decode cX0_finish 15 = .ok (.aload_n 0, 1) := by decide +kernel
theorem dX0_finish_16 : decode cX0_finish 16 = .ok (.getfield 31, 3) := by decide +kernel
theorem dX0_finish_19 : decode cX0_finish 19 = .ok (.iload_n 1, 1) := by decide +kernel
theorem dX0_finish_20 : decode cX0_finish 20 = .ok (.aload_n 0, 1) := by decide +kernel
theorem dX0_finish_21 : decode cX0_finish 21 = .ok (.getfield 31, 3) := by decide +kernel
theorem dX0_finish_24 : decode cX0_finish 24 = .ok (.iload_n 1, 1) := by decide +kernel
theorem dX0_finish_25 : decode cX0_finish 25 = .ok (.iaload, 1) := by decide +kernel
theorem dX0_finish_26 : decode cX0_finish 26 = .ok (.iconst 1, 1) := by decide +kernel
theorem dX0_finish_27 : decode cX0_finish 27 = .ok (.iload_n 2, 1) := by decide +kernel
theorem dX0_finish_28 : decode cX0_finish 28 = .ok (.ishl, 1) := by decide +kernel
theorem dX0_finish_29 : decode cX0_finish 29 = .ok (.ior, 1) := by decide +kernel
theorem dX0_finish_30 : decode cX0_finish 30 = .ok (.iastore, 1) := by decide +kernel
theorem dX0_finish_31 : decode cX0_finish 31 = .ok (.iconst 0, 1) := by decide +kernel
theorem dX0_finish_32 : decode cX0_finish 32 = .ok (.istore_n 3, 1) := by decide +kernel
theorem dX0_finish_33 : decode cX0_finish 33 = .ok (.iload_n 3, 1) := by decide +kernel
theorem dX0_finish_34 : decode cX0_finish 34 = .ok (.sipush 2160, 3) := by decide +kernel
theorem dX0_finish_37 : decode cX0_finish 37 = .ok (.if_icmp .ge 46, 3) := by decide +kernel
theorem dX0_finish_40 : decode cX0_finish 40 = .ok (.aload_n 0, 1) := by decide +kernel
theorem dX0_finish_41 : decode cX0_finish 41 = .ok (.getfield 28, 3) := by decide +kernel
theorem dX0_finish_44 : decode cX0_finish 44 = .ok (.bipush 68, 2) := by decide +kernel
theorem dX0_finish_46 : decode cX0_finish 46 = .ok (.iload_n 1, 1) := by decide +kernel
theorem dX0_finish_47 : decode cX0_finish 47 = .ok (.imul, 1) := by decide +kernel
theorem dX0_finish_48 : decode cX0_finish 48 = .ok (.iload_n 3, 1) := by decide +kernel
theorem dX0_finish_49 : decode cX0_finish 49 = .ok (.iconst 5, 1) := by decide +kernel
theorem dX0_finish_50 : decode cX0_finish 50 = .ok (.ishr, 1) := by decide +kernel
theorem dX0_finish_51 : decode cX0_finish 51 = .ok (.iadd, 1) := by decide +kernel
theorem dX0_finish_52 : decode cX0_finish 52 = .ok (.iaload, 1) := by decide +kernel
theorem dX0_finish_53 : decode cX0_finish 53 = .ok (.iload_n 3, 1) := by decide +kernel
theorem dX0_finish_54 : decode cX0_finish 54 = .ok (.bipush 31, 2) := by decide +kernel
theorem dX0_finish_56 : decode cX0_finish 56 = .ok (.iand, 1) := by decide +kernel
theorem dX0_finish_57 : decode cX0_finish 57 = .ok (.iushr, 1) := by decide +kernel
theorem dX0_finish_58 : decode cX0_finish 58 = .ok (.iconst 1, 1) := by decide +kernel
theorem dX0_finish_59 : decode cX0_finish 59 = .ok (.iand, 1) := by decide +kernel
theorem dX0_finish_60 : decode cX0_finish 60 = .ok (.iconst 1, 1) := by decide +kernel
theorem dX0_finish_61 : decode cX0_finish 61 = .ok (.if_icmp .ne 16, 3) := by decide +kernel
theorem dX0_finish_64 : decode cX0_finish 64 = .ok (.aload_n 0, 1) := by decide +kernel
theorem dX0_finish_65 : decode cX0_finish 65 = .ok (.iload_n 3, 1) := by decide +kernel
theorem dX0_finish_66 : decode cX0_finish 66 = .ok (.bipush 45, 2) := by decide +kernel
theorem dX0_finish_68 : decode cX0_finish 68 = .ok (.idiv, 1) := by decide +kernel
theorem dX0_finish_69 : decode cX0_finish 69 = .ok (.iload_n 3, 1) := by decide +kernel
theorem dX0_finish_70 : decode cX0_finish 70 = .ok (.bipush 45, 2) := by decide +kernel
theorem dX0_finish_72 : decode cX0_finish 72 = .ok (.irem, 1) := by decide +kernel
theorem dX0_finish_73 : decode cX0_finish 73 = .ok (.iload_n 2, 1) := by decide +kernel
theorem dX0_finish_74 : decode cX0_finish 74 = .ok (.invokevirtual 84, 3) := by decide +kernel
theorem dX0_finish_77 : decode cX0_finish 77 = .ok (.iinc 3 1, 3) := by decide +kernel
theorem dX0_finish_80 : decode cX0_finish 80 = .ok (.goto (-47), 3) := by decide +kernel
theorem dX0_finish_83 : decode cX0_finish 83 = .ok (.return_, 1) := by decide +kernel
abbrev cX0_attend : ByteArray := prog_1_method_32_code
def yX0_attend : MethodName := ⟨RX0, "attend", "(III)V"⟩
theorem dX0_attend_0 : decode cX0_attend 0 = .ok (.iload_n 2, 1) := by decide +kernel
theorem dX0_attend_1 : decode cX0_attend 1 = .ok (.bipush 45, 2) := by decide +kernel
theorem dX0_attend_3 : decode cX0_attend 3 = .ok (.imul, 1) := by decide +kernel
theorem dX0_attend_4 : decode cX0_attend 4 = .ok (.iload_n 3, 1) := by decide +kernel
theorem dX0_attend_5 : decode cX0_attend 5 = .ok (.iadd, 1) := by decide +kernel
theorem dX0_attend_6 : decode cX0_attend 6 = .ok (.istore 4, 2) := by decide +kernel
theorem dX0_attend_8 : decode cX0_attend 8 = .ok (.bipush 68, 2) := by decide +kernel
theorem dX0_attend_10 : decode cX0_attend 10 = .ok (.iload_n 1, 1) := by decide +kernel
theorem dX0_attend_11 : decode cX0_attend 11 = .ok (.imul, 1) := by decide +kernel
theorem dX0_attend_12 : decode cX0_attend 12 = .ok (.iload 4, 2) := by decide +kernel
theorem dX0_attend_14 : decode cX0_attend 14 = .ok (.iconst 5, 1) := by decide +kernel
theorem dX0_attend_15 : decode cX0_attend 15 = .ok (.ishr, 1) := by decide +kernel
theorem dX0_attend_16 : decode cX0_attend 16 = .ok (.iadd, 1) := by decide +kernel
theorem dX0_attend_17 : decode cX0_attend 17 = .ok (.istore 5, 2) := by decide +kernel
theorem dX0_attend_19 : decode cX0_attend 19 = .ok (.iconst 1, 1) := by decide +kernel
theorem dX0_attend_20 : decode cX0_attend 20 = .ok (.iload 4, 2) := by decide +kernel
theorem dX0_attend_22 : decode cX0_attend 22 = .ok (.bipush 31, 2) := by decide +kernel
theorem dX0_attend_24 : decode cX0_attend 24 = .ok (.iand, 1) := by decide +kernel
theorem dX0_attend_25 : decode cX0_attend 25 = .ok (.ishl, 1) := by decide +kernel
theorem dX0_attend_26 : decode cX0_attend 26 = .ok (.istore 6, 2) := by decide +kernel
theorem dX0_attend_28 : decode cX0_attend 28 = .ok (.aload_n 0, 1) := by decide +kernel
theorem dX0_attend_29 : decode cX0_attend 29 = .ok (.getfield 28, 3) := by decide +kernel
theorem dX0_attend_32 : decode cX0_attend 32 = .ok (.iload 5, 2) := by decide +kernel
theorem dX0_attend_34 : decode cX0_attend 34 = .ok (.iaload, 1) := by decide +kernel
theorem dX0_attend_35 : decode cX0_attend 35 = .ok (.iload 6, 2) := by decide +kernel
theorem dX0_attend_37 : decode cX0_attend 37 = .ok (.iand, 1) := by decide +kernel
theorem dX0_attend_38 : decode cX0_attend 38 = .ok (.ifCond .eq 4, 3) := by decide +kernel
theorem dX0_attend_41 : decode cX0_attend 41 = .ok (.return_, 1) := by decide +kernel
theorem dX0_attend_42 : decode cX0_attend 42 = .ok (.aload_n 0, 1) := by decide +kernel
theorem dX0_attend_43 : decode cX0_attend 43 = .ok (.getfield 28, 3) := by decide +kernel
theorem dX0_attend_46 : decode cX0_attend 46 = .ok (.iload 5, 2) := by decide +kernel
theorem dX0_attend_48 : decode cX0_attend 48 = .ok (.aload_n 0, 1) := by decide +kernel
theorem dX0_attend_49 : decode cX0_attend 49 = .ok (.getfield 28, 3) := by decide +kernel
theorem dX0_attend_52 : decode cX0_attend 52 = .ok (.iload 5, 2) := by decide +kernel
theorem dX0_attend_54 : decode cX0_attend 54 = .ok (.iaload, 1) := by decide +kernel
theorem dX0_attend_55 : decode cX0_attend 55 = .ok (.iload 6, 2) := by decide +kernel
theorem dX0_attend_57 : decode cX0_attend 57 = .ok (.ior, 1) := by decide +kernel
theorem dX0_attend_58 : decode cX0_attend 58 = .ok (.iastore, 1) := by decide +kernel
theorem dX0_attend_59 : decode cX0_attend 59 = .ok (.iconst 0, 1) := by decide +kernel
theorem dX0_attend_60 : decode cX0_attend 60 = .ok (.istore 7, 2) := by decide +kernel
theorem dX0_attend_62 : decode cX0_attend 62 = .ok (.iload 7, 2) := by decide +kernel
theorem dX0_attend_64 : decode cX0_attend 64 = .ok (.bipush 9, 2) := by decide +kernel
theorem dX0_attend_66 : decode cX0_attend 66 = .ok (.if_icmp .ge 32, 3) := by decide +kernel
theorem dX0_attend_69 : decode cX0_attend 69 = .ok (.aload_n 0, 1) := by decide +kernel
theorem dX0_attend_70 : decode cX0_attend 70 = .ok (.getfield 31, 3) := by decide +kernel
theorem dX0_attend_73 : decode cX0_attend 73 = .ok (.iload_n 1, 1) := by decide +kernel
theorem dX0_attend_74 : decode cX0_attend 74 = .ok (.iaload, 1) := by decide +kernel
theorem dX0_attend_75 : decode cX0_attend 75 = .ok (.iload 7, 2) := by decide +kernel
theorem dX0_attend_77 : decode cX0_attend 77 = .ok (.ishr, 1) := by decide +kernel
theorem dX0_attend_78 : decode cX0_attend 78 = .ok (.iconst 1, 1) := by decide +kernel
theorem dX0_attend_79 : decode cX0_attend 79 = .ok (.iand, 1) := by decide +kernel
theorem dX0_attend_80 : decode cX0_attend 80 = .ok (.iconst 1, 1) := by decide +kernel
theorem dX0_attend_81 : decode cX0_attend 81 = .ok (.if_icmp .ne 11, 3) := by decide +kernel
theorem dX0_attend_84 : decode cX0_attend 84 = .ok (.aload_n 0, 1) := by decide +kernel
theorem dX0_attend_85 : decode cX0_attend 85 = .ok (.iload_n 2, 1) := by decide +kernel
theorem dX0_attend_86 : decode cX0_attend 86 = .ok (.iload_n 3, 1) := by decide +kernel
theorem dX0_attend_87 : decode cX0_attend 87 = .ok (.iload 7, 2) := by decide +kernel
theorem dX0_attend_89 : decode cX0_attend 89 = .ok (.invokevirtual 84, 3) := by decide +kernel
theorem dX0_attend_92 : decode cX0_attend 92 = .ok (.iinc 7 1, 3) := by decide +kernel
theorem dX0_attend_95 : decode cX0_attend 95 = .ok (.goto (-33), 3) := by decide +kernel
theorem dX0_attend_98 : decode cX0_attend 98 = .ok (.aload_n 0, 1) := by decide +kernel
theorem dX0_attend_99 : decode cX0_attend 99 = .ok (.iload_n 1, 1) := by decide +kernel
theorem dX0_attend_100 : decode cX0_attend 100 = .ok (.invokevirtual 74, 3) := by decide +kernel
theorem dX0_attend_103 : decode cX0_attend 103 = .ok (.return_, 1) := by decide +kernel
abbrev cX0_fits : ByteArray := prog_1_method_11_code
def yX0_fits : MethodName := ⟨RX0, "fits", "(III)I"⟩
theorem dX0_fits_0 : decode cX0_fits 0 = .ok (.iload_n 1, 1) := by decide +kernel
theorem dX0_fits_1 : decode cX0_fits 1 = .ok (.invokestatic 60, 3) := by decide +kernel
theorem dX0_fits_4 : decode cX0_fits 4 = .ok (.ifCond .ne 5, 3) := by decide +kernel
theorem dX0_fits_7 : decode cX0_fits 7 = .ok (.iconst (-1), 1) := by decide +kernel
theorem dX0_fits_8 : decode cX0_fits 8 = .ok (.ireturn, 1) := by decide +kernel
theorem dX0_fits_9 : decode cX0_fits 9 = .ok (.aload_n 0, 1) := by decide +kernel
theorem dX0_fits_10 : decode cX0_fits 10 = .ok (.iload_n 2, 1) := by decide +kernel
theorem dX0_fits_11 : decode cX0_fits 11 = .ok (.iload_n 3, 1) := by decide +kernel
theorem dX0_fits_12 : decode cX0_fits 12 = .ok (.invokevirtual 63, 3) := by decide +kernel
theorem dX0_fits_15 : decode cX0_fits 15 = .ok (.ifCond .ne 6, 3) := by decide +kernel
theorem dX0_fits_18 : decode cX0_fits 18 = .ok (.bipush (-2), 2) := by decide +kernel
theorem dX0_fits_20 : decode cX0_fits 20 = .ok (.ireturn, 1) := by decide +kernel
theorem dX0_fits_21 : decode cX0_fits 21 = .ok (.aload_n 0, 1) := by decide +kernel
theorem dX0_fits_22 : decode cX0_fits 22 = .ok (.iload_n 1, 1) := by decide +kernel
theorem dX0_fits_23 : decode cX0_fits 23 = .ok (.iload_n 2, 1) := by decide +kernel
theorem dX0_fits_24 : decode cX0_fits 24 = .ok (.invokevirtual 56, 3) := by decide +kernel
theorem dX0_fits_27 : decode cX0_fits 27 = .ok (.istore 4, 2) := by decide +kernel
theorem dX0_fits_29 : decode cX0_fits 29 = .ok (.iload 4, 2) := by decide +kernel
theorem dX0_fits_31 : decode cX0_fits 31 = .ok (.iload_n 3, 1) := by decide +kernel
theorem dX0_fits_32 : decode cX0_fits 32 = .ok (.ishr, 1) := by decide +kernel
theorem dX0_fits_33 : decode cX0_fits 33 = .ok (.iconst 1, 1) := by decide +kernel
theorem dX0_fits_34 : decode cX0_fits 34 = .ok (.iand, 1) := by decide +kernel
theorem dX0_fits_35 : decode cX0_fits 35 = .ok (.ireturn, 1) := by decide +kernel
abbrev cX0_isSign : ByteArray := prog_1_method_20_code
def yX0_isSign : MethodName := ⟨RX0, "isSign", "(I)Z"⟩
theorem dX0_isSign_0 : decode cX0_isSign 0 = .ok (.iload_n 0, 1) := by decide +kernel
theorem dX0_isSign_1 : decode cX0_isSign 1 = .ok (.ifCond .lt 13, 3) := by decide +kernel
theorem dX0_isSign_4 : decode cX0_isSign 4 = .ok (.iload_n 0, 1) := by decide +kernel
theorem dX0_isSign_5 : decode cX0_isSign 5 = .ok (.bipush 7, 2) := by decide +kernel
theorem dX0_isSign_7 : decode cX0_isSign 7 = .ok (.if_icmp .gt 7, 3) := by decide +kernel
theorem dX0_isSign_10 : decode cX0_isSign 10 = .ok (.iconst 1, 1) := by decide +kernel
theorem dX0_isSign_11 : decode cX0_isSign 11 = .ok (.goto 4, 3) := by decide +kernel
theorem dX0_isSign_14 : decode cX0_isSign 14 = .ok (.iconst 0, 1) := by decide +kernel
theorem dX0_isSign_15 : decode cX0_isSign 15 = .ok (.ireturn, 1) := by decide +kernel
abbrev cX0_isStretch : ByteArray := prog_1_method_22_code
def yX0_isStretch : MethodName := ⟨RX0, "isStretch", "(II)Z"⟩
theorem dX0_isStretch_0 : decode cX0_isStretch 0 = .ok (.iload_n 1, 1) := by decide +kernel
theorem dX0_isStretch_1 : decode cX0_isStretch 1 = .ok (.ifCond .lt 20, 3) := by decide +kernel
theorem dX0_isStretch_4 : decode cX0_isStretch 4 = .ok (.iload_n 1, 1) := by decide +kernel
theorem dX0_isStretch_5 : decode cX0_isStretch 5 = .ok (.iload_n 2, 1) := by decide +kernel
theorem dX0_isStretch_6 : decode cX0_isStretch 6 = .ok (.if_icmp .gt 15, 3) := by decide +kernel
theorem dX0_isStretch_9 : decode cX0_isStretch 9 = .ok (.iload_n 2, 1) := by decide +kernel
theorem dX0_isStretch_10 : decode cX0_isStretch 10 = .ok (.aload_n 0, 1) := by decide +kernel
theorem dX0_isStretch_11 : decode cX0_isStretch 11 = .ok (.getfield 53, 3) := by decide +kernel
theorem dX0_isStretch_14 : decode cX0_isStretch 14 = .ok (.if_icmp .gt 7, 3) := by decide +kernel
theorem dX0_isStretch_17 : decode cX0_isStretch 17 = .ok (.iconst 1, 1) := by decide +kernel
theorem dX0_isStretch_18 : decode cX0_isStretch 18 = .ok (.goto 4, 3) := by decide +kernel
theorem dX0_isStretch_21 : decode cX0_isStretch 21 = .ok (.iconst 0, 1) := by decide +kernel
theorem dX0_isStretch_22 : decode cX0_isStretch 22 = .ok (.ireturn, 1) := by decide +kernel
abbrev cX0_ends : ByteArray := prog_1_method_12_code
def yX0_ends : MethodName := ⟨RX0, "ends", "(II)I"⟩
theorem dX0_ends_0 : decode cX0_ends 0 = .ok (.iload_n 1, 1) := by decide +kernel
theorem dX0_ends_1 : decode cX0_ends 1 = .ok (.invokestatic 60, 3) := by decide +kernel
theorem dX0_ends_4 : decode cX0_ends 4 = .ok (.ifCond .ne 5, 3) := by decide +kernel
theorem dX0_ends_7 : decode cX0_ends 7 = .ok (.iconst (-1), 1) := by decide +kernel
theorem dX0_ends_8 : decode cX0_ends 8 = .ok (.ireturn, 1) := by decide +kernel
theorem dX0_ends_9 : decode cX0_ends 9 = .ok (.iload_n 2, 1) := by decide +kernel
theorem dX0_ends_10 : decode cX0_ends 10 = .ok (.ifCond .lt 20, 3) := by decide +kernel
theorem dX0_ends_13 : decode cX0_ends 13 = .ok (.iload_n 2, 1) := by decide +kernel
theorem dX0_ends_14 : decode cX0_ends 14 = .ok (.aload_n 0, 1) := by decide +kernel
theorem dX0_ends_15 : decode cX0_ends 15 = .ok (.getfield 53, 3) := by decide +kernel
theorem dX0_ends_18 : decode cX0_ends 18 = .ok (.if_icmp .gt 12, 3) := by decide +kernel
theorem dX0_ends_21 : decode cX0_ends 21 = .ok (.aload_n 0, 1) := by decide +kernel
theorem dX0_ends_22 : decode cX0_ends 22 = .ok (.iload_n 1, 1) := by decide +kernel
theorem dX0_ends_23 : decode cX0_ends 23 = .ok (.iload_n 2, 1) := by decide +kernel
theorem dX0_ends_24 : decode cX0_ends 24 = .ok (.invokevirtual 56, 3) := by decide +kernel
theorem dX0_ends_27 : decode cX0_ends 27 = .ok (.goto 5, 3) := by decide +kernel
theorem dX0_ends_30 : decode cX0_ends 30 = .ok (.bipush (-2), 2) := by decide +kernel
theorem dX0_ends_32 : decode cX0_ends 32 = .ok (.ireturn, 1) := by decide +kernel
abbrev cX0_ruleFits : ByteArray := prog_1_method_13_code
def yX0_ruleFits : MethodName := ⟨RX0, "ruleFits", "(III)I"⟩
theorem dX0_ruleFits_0 : decode cX0_ruleFits 0 = .ok (.aload_n 0, 1) := by decide +kernel
theorem dX0_ruleFits_1 : decode cX0_ruleFits 1 = .ok (.iload_n 1, 1) := by decide +kernel
theorem dX0_ruleFits_2 : decode cX0_ruleFits 2 = .ok (.invokevirtual 50, 3) := by decide +kernel
theorem dX0_ruleFits_5 : decode cX0_ruleFits 5 = .ok (.ifCond .ne 5, 3) := by decide +kernel
theorem dX0_ruleFits_8 : decode cX0_ruleFits 8 = .ok (.iconst (-1), 1) := by decide +kernel
theorem dX0_ruleFits_9 : decode cX0_ruleFits 9 = .ok (.ireturn, 1) := by decide +kernel
theorem dX0_ruleFits_10 : decode cX0_ruleFits 10 = .ok (.aload_n 0, 1) := by decide +kernel
theorem dX0_ruleFits_11 : decode cX0_ruleFits 11 = .ok (.iload_n 2, 1) := by decide +kernel
theorem dX0_ruleFits_12 : decode cX0_ruleFits 12 = .ok (.iload_n 3, 1) := by decide +kernel
theorem dX0_ruleFits_13 : decode cX0_ruleFits 13 = .ok (.invokevirtual 63, 3) := by decide +kernel
theorem dX0_ruleFits_16 : decode cX0_ruleFits 16 = .ok (.ifCond .ne 6, 3) := by decide +kernel
theorem dX0_ruleFits_19 : decode cX0_ruleFits 19 = .ok (.bipush (-2), 2) := by decide +kernel
theorem dX0_ruleFits_21 : decode cX0_ruleFits 21 = .ok (.ireturn, 1) := by decide +kernel
theorem dX0_ruleFits_22 : decode cX0_ruleFits 22 = .ok (.aload_n 0, 1) := by decide +kernel
theorem dX0_ruleFits_23 : decode cX0_ruleFits 23 = .ok (.iload_n 1, 1) := by decide +kernel
theorem dX0_ruleFits_24 : decode cX0_ruleFits 24 = .ok (.iload_n 2, 1) := by decide +kernel
theorem dX0_ruleFits_25 : decode cX0_ruleFits 25 = .ok (.iload_n 3, 1) := by decide +kernel
theorem dX0_ruleFits_26 : decode cX0_ruleFits 26 = .ok (.invokevirtual 67, 3) := by decide +kernel
theorem dX0_ruleFits_29 : decode cX0_ruleFits 29 = .ok (.ifCond .eq 7, 3) := by decide +kernel
theorem dX0_ruleFits_32 : decode cX0_ruleFits 32 = .ok (.iconst 1, 1) := by decide +kernel
theorem dX0_ruleFits_33 : decode cX0_ruleFits 33 = .ok (.goto 4, 3) := by decide +kernel
theorem dX0_ruleFits_36 : decode cX0_ruleFits 36 = .ok (.iconst 0, 1) := by decide +kernel
theorem dX0_ruleFits_37 : decode cX0_ruleFits 37 = .ok (.ireturn, 1) := by decide +kernel
abbrev cX0_doesFit : ByteArray := prog_1_method_33_code
def yX0_doesFit : MethodName := ⟨RX0, "doesFit", "(III)Z"⟩
theorem dX0_doesFit_0 : decode cX0_doesFit 0 = .ok (.iconst 1, 1) := by decide +kernel
theorem dX0_doesFit_1 : decode cX0_doesFit 1 = .ok (.iload_n 2, 1) := by decide +kernel
theorem dX0_doesFit_2 : decode cX0_doesFit 2 = .ok (.ishl, 1) := by decide +kernel
theorem dX0_doesFit_3 : decode cX0_doesFit 3 = .ok (.istore 4, 2) := by decide +kernel
theorem dX0_doesFit_5 : decode cX0_doesFit 5 = .ok (.iconst 0, 1) := by decide +kernel
theorem dX0_doesFit_6 : decode cX0_doesFit 6 = .ok (.istore 5, 2) := by decide +kernel
theorem dX0_doesFit_8 : decode cX0_doesFit 8 = .ok (.iload 5, 2) := by decide +kernel
theorem dX0_doesFit_10 : decode cX0_doesFit 10 = .ok (.aload_n 0, 1) := by decide +kernel
theorem dX0_doesFit_11 : decode cX0_doesFit 11 = .ok (.getfield 16, 3) := by decide +kernel
theorem dX0_doesFit_14 : decode cX0_doesFit 14 = .ok (.iload_n 1, 1) := by decide +kernel
theorem dX0_doesFit_15 : decode cX0_doesFit 15 = .ok (.iaload, 1) := by decide +kernel
theorem dX0_doesFit_16 : decode cX0_doesFit 16 = .ok (.if_icmp .ge 64, 3) := by decide +kernel
theorem dX0_doesFit_19 : decode cX0_doesFit 19 = .ok (.iconst 0, 1) := by decide +kernel
theorem dX0_doesFit_20 : decode cX0_doesFit 20 = .ok (.istore 6, 2) := by decide +kernel
theorem dX0_doesFit_22 : decode cX0_doesFit 22 = .ok (.iload_n 2, 1) := by decide +kernel
theorem dX0_doesFit_23 : decode cX0_doesFit 23 = .ok (.istore 7, 2) := by decide +kernel
theorem dX0_doesFit_25 : decode cX0_doesFit 25 = .ok (.iload 7, 2) := by decide +kernel
theorem dX0_doesFit_27 : decode cX0_doesFit 27 = .ok (.iload_n 3, 1) := by decide +kernel
theorem dX0_doesFit_28 : decode cX0_doesFit 28 = .ok (.if_icmp .gt 42, 3) := by decide +kernel
theorem dX0_doesFit_31 : decode cX0_doesFit 31 = .ok (.iload 4, 2) := by decide +kernel
theorem dX0_doesFit_33 : decode cX0_doesFit 33 = .ok (.iload 7, 2) := by decide +kernel
theorem dX0_doesFit_35 : decode cX0_doesFit 35 = .ok (.ishr, 1) := by decide +kernel
theorem dX0_doesFit_36 : decode cX0_doesFit 36 = .ok (.iconst 1, 1) := by decide +kernel
theorem dX0_doesFit_37 : decode cX0_doesFit 37 = .ok (.iand, 1) := by decide +kernel
theorem dX0_doesFit_38 : decode cX0_doesFit 38 = .ok (.iconst 1, 1) := by decide +kernel
theorem dX0_doesFit_39 : decode cX0_doesFit 39 = .ok (.if_icmp .ne 25, 3) := by decide +kernel
theorem dX0_doesFit_42 : decode cX0_doesFit 42 = .ok (.iload 6, 2) := by decide +kernel
theorem dX0_doesFit_44 : decode cX0_doesFit 44 = .ok (.aload_n 0, 1) := by decide +kernel
theorem dX0_doesFit_45 : decode cX0_doesFit 45 = .ok (.aload_n 0, 1) := by decide +kernel
theorem dX0_doesFit_46 : decode cX0_doesFit 46 = .ok (.getfield 13, 3) := by decide +kernel
theorem dX0_doesFit_49 : decode cX0_doesFit 49 = .ok (.iconst 3, 1) := by decide +kernel
theorem dX0_doesFit_50 : decode cX0_doesFit 50 = .ok (.iload_n 1, 1) := by decide +kernel
theorem dX0_doesFit_51 : decode cX0_doesFit 51 = .ok (.imul, 1) := by decide +kernel
theorem dX0_doesFit_52 : decode cX0_doesFit 52 = .ok (.iload 5, 2) := by decide +kernel
theorem dX0_doesFit_54 : decode cX0_doesFit 54 = .ok (.iadd, 1) := by decide +kernel
theorem dX0_doesFit_55 : decode cX0_doesFit 55 = .ok (.iaload, 1) := by decide +kernel
theorem dX0_doesFit_56 : decode cX0_doesFit 56 = .ok (.iload 7, 2) := by decide +kernel
theorem dX0_doesFit_58 : decode cX0_doesFit 58 = .ok (.invokevirtual 56, 3) := by decide +kernel
theorem dX0_doesFit_61 : decode cX0_doesFit 61 = .ok (.ior, 1) := by decide +kernel
theorem dX0_doesFit_62 : decode cX0_doesFit 62 = .ok (.istore 6, 2) := by decide +kernel
theorem dX0_doesFit_64 : decode cX0_doesFit 64 = .ok (.iinc 7 1, 3) := by decide +kernel
theorem dX0_doesFit_67 : decode cX0_doesFit 67 = .ok (.goto (-42), 3) := by decide +kernel
theorem dX0_doesFit_70 : decode cX0_doesFit 70 = .ok (.iload 6, 2) := by decide +kernel
theorem dX0_doesFit_72 : decode cX0_doesFit 72 = .ok (.istore 4, 2) := by decide +kernel
theorem dX0_doesFit_74 : decode cX0_doesFit 74 = .ok (.iinc 5 1, 3) := by decide +kernel
theorem dX0_doesFit_77 : decode cX0_doesFit 77 = .ok (.goto (-69), 3) := by decide +kernel
theorem dX0_doesFit_80 : decode cX0_doesFit 80 = .ok (.iload 4, 2) := by decide +kernel
theorem dX0_doesFit_82 : decode cX0_doesFit 82 = .ok (.iload_n 3, 1) := by decide +kernel
theorem dX0_doesFit_83 : decode cX0_doesFit 83 = .ok (.ishr, 1) := by decide +kernel
theorem dX0_doesFit_84 : decode cX0_doesFit 84 = .ok (.iconst 1, 1) := by decide +kernel
theorem dX0_doesFit_85 : decode cX0_doesFit 85 = .ok (.iand, 1) := by decide +kernel
theorem dX0_doesFit_86 : decode cX0_doesFit 86 = .ok (.iconst 1, 1) := by decide +kernel
theorem dX0_doesFit_87 : decode cX0_doesFit 87 = .ok (.if_icmp .ne 7, 3) := by decide +kernel
theorem dX0_doesFit_90 : decode cX0_doesFit 90 = .ok (.iconst 1, 1) := by decide +kernel
theorem dX0_doesFit_91 : decode cX0_doesFit 91 = .ok (.goto 4, 3) := by decide +kernel
theorem dX0_doesFit_94 : decode cX0_doesFit 94 = .ok (.iconst 0, 1) := by decide +kernel
theorem dX0_doesFit_95 : decode cX0_doesFit 95 = .ok (.ireturn, 1) := by decide +kernel
abbrev cX0_stretches : ByteArray := prog_1_method_14_code
def yX0_stretches : MethodName := ⟨RX0, "stretches", "(I)I"⟩
theorem dX0_stretches_0 : decode cX0_stretches 0 = .ok (.iload_n 1, 1) := by decide +kernel
theorem dX0_stretches_1 : decode cX0_stretches 1 = .ok (.invokestatic 60, 3) := by decide +kernel
theorem dX0_stretches_4 : decode cX0_stretches 4 = .ok (.ifCond .ne 5, 3) := by decide +kernel
theorem dX0_stretches_7 : decode cX0_stretches 7 = .ok (.iconst (-1), 1) := by decide +kernel
theorem dX0_stretches_8 : decode cX0_stretches 8 = .ok (.ireturn, 1) := by decide +kernel
theorem dX0_stretches_9 : decode cX0_stretches 9 = .ok (.iconst 0, 1) := by decide +kernel
theorem dX0_stretches_10 : decode cX0_stretches 10 = .ok (.istore_n 2, 1) := by decide +kernel
theorem dX0_stretches_11 : decode cX0_stretches 11 = .ok (.iconst 0, 1) := by decide +kernel
theorem dX0_stretches_12 : decode cX0_stretches 12 = .ok (.istore_n 3, 1) := by decide +kernel
theorem dX0_stretches_13 : decode cX0_stretches 13 = .ok (.iload_n 3, 1) := by decide +kernel
theorem dX0_stretches_14 : decode cX0_stretches 14 = .ok (.aload_n 0, 1) := by decide +kernel
theorem dX0_stretches_15 : decode cX0_stretches 15 = .ok (.getfield 53, 3) := by decide +kernel
theorem dX0_stretches_18 : decode cX0_stretches 18 = .ok (.if_icmp .gt 45, 3) := by decide +kernel
theorem dX0_stretches_21 : decode cX0_stretches 21 = .ok (.aload_n 0, 1) := by decide +kernel
theorem dX0_stretches_22 : decode cX0_stretches 22 = .ok (.iload_n 1, 1) := by decide +kernel
theorem dX0_stretches_23 : decode cX0_stretches 23 = .ok (.iload_n 3, 1) := by decide +kernel
theorem dX0_stretches_24 : decode cX0_stretches 24 = .ok (.invokevirtual 56, 3) := by decide +kernel
theorem dX0_stretches_27 : decode cX0_stretches 27 = .ok (.istore 4, 2) := by decide +kernel
theorem dX0_stretches_29 : decode cX0_stretches 29 = .ok (.iconst 0, 1) := by decide +kernel
theorem dX0_stretches_30 : decode cX0_stretches 30 = .ok (.istore 5, 2) := by decide +kernel
theorem dX0_stretches_32 : decode cX0_stretches 32 = .ok (.iload 5, 2) := by decide +kernel
theorem dX0_stretches_34 : decode cX0_stretches 34 = .ok (.aload_n 0, 1) := by decide +kernel
theorem dX0_stretches_35 : decode cX0_stretches 35 = .ok (.getfield 53, 3) := by decide +kernel
theorem dX0_stretches_38 : decode cX0_stretches 38 = .ok (.if_icmp .gt 19, 3) := by decide +kernel
theorem dX0_stretches_41 : decode cX0_stretches 41 = .ok (.iload_n 2, 1) := by decide +kernel
theorem dX0_stretches_42 : decode cX0_stretches 42 = .ok (.iload 4, 2) := by decide +kernel
theorem dX0_stretches_44 : decode cX0_stretches 44 = .ok (.iload 5, 2) := by decide +kernel
theorem dX0_stretches_46 : decode cX0_stretches 46 = .ok (.ishr, 1) := by decide +kernel
theorem dX0_stretches_47 : decode cX0_stretches 47 = .ok (.iconst 1, 1) := by decide +kernel
theorem dX0_stretches_48 : decode cX0_stretches 48 = .ok (.iand, 1) := by decide +kernel
theorem dX0_stretches_49 : decode cX0_stretches 49 = .ok (.iadd, 1) := by decide +kernel
theorem dX0_stretches_50 : decode cX0_stretches 50 = .ok (.istore_n 2, 1) := by decide +kernel
theorem dX0_stretches_51 : decode cX0_stretches 51 = .ok (.iinc 5 1, 3) := by decide +kernel
theorem dX0_stretches_54 : decode cX0_stretches 54 = .ok (.goto (-22), 3) := by decide +kernel
theorem dX0_stretches_57 : decode cX0_stretches 57 = .ok (.iinc 3 1, 3) := by decide +kernel
theorem dX0_stretches_60 : decode cX0_stretches 60 = .ok (.goto (-47), 3) := by decide +kernel
theorem dX0_stretches_63 : decode cX0_stretches 63 = .ok (.iload_n 2, 1) := by decide +kernel
theorem dX0_stretches_64 : decode cX0_stretches 64 = .ok (.ireturn, 1) := by decide +kernel
abbrev cX0_longest : ByteArray := prog_1_method_15_code
def yX0_longest : MethodName := ⟨RX0, "longest", "(I)I"⟩
theorem dX0_longest_0 : decode cX0_longest 0 = .ok (.iload_n 1, 1) := by decide +kernel
theorem dX0_longest_1 : decode cX0_longest 1 = .ok (.invokestatic 60, 3) := by decide +kernel
theorem dX0_longest_4 : decode cX0_longest 4 = .ok (.ifCond .ne 5, 3) := by decide +kernel
theorem dX0_longest_7 : decode cX0_longest 7 = .ok (.iconst (-1), 1) := by decide +kernel
theorem dX0_longest_8 : decode cX0_longest 8 = .ok (.ireturn, 1) := by decide +kernel
theorem dX0_longest_9 : decode cX0_longest 9 = .ok (.bipush (-2), 2) := by decide +kernel
theorem dX0_longest_11 : decode cX0_longest 11 = .ok (.istore_n 2, 1) := by decide +kernel
theorem dX0_longest_12 : decode cX0_longest 12 = .ok (.iconst 0, 1) := by decide +kernel
theorem dX0_longest_13 : decode cX0_longest 13 = .ok (.istore_n 3, 1) := by decide +kernel
theorem dX0_longest_14 : decode cX0_longest 14 = .ok (.iload_n 3, 1) := by decide +kernel
theorem dX0_longest_15 : decode cX0_longest 15 = .ok (.aload_n 0, 1) := by decide +kernel
theorem dX0_longest_16 : decode cX0_longest 16 = .ok (.getfield 53, 3) := by decide +kernel
theorem dX0_longest_19 : decode cX0_longest 19 = .ok (.if_icmp .gt 59, 3) := by decide +kernel
theorem dX0_longest_22 : decode cX0_longest 22 = .ok (.aload_n 0, 1) := by decide +kernel
theorem dX0_longest_23 : decode cX0_longest 23 = .ok (.iload_n 1, 1) := by decide +kernel
theorem dX0_longest_24 : decode cX0_longest 24 = .ok (.iload_n 3, 1) := by decide +kernel
theorem dX0_longest_25 : decode cX0_longest 25 = .ok (.invokevirtual 56, 3) := by decide +kernel
theorem dX0_longest_28 : decode cX0_longest 28 = .ok (.istore 4, 2) := by decide +kernel
theorem dX0_longest_30 : decode cX0_longest 30 = .ok (.iload_n 3, 1) := by decide +kernel
theorem dX0_longest_31 : decode cX0_longest 31 = .ok (.istore 5, 2) := by decide +kernel
theorem dX0_longest_33 : decode cX0_longest 33 = .ok (.iload 5, 2) := by decide +kernel
theorem dX0_longest_35 : decode cX0_longest 35 = .ok (.aload_n 0, 1) := by decide +kernel
theorem dX0_longest_36 : decode cX0_longest 36 = .ok (.getfield 53, 3) := by decide +kernel
theorem dX0_longest_39 : decode cX0_longest 39 = .ok (.if_icmp .gt 33, 3) := by decide +kernel
theorem dX0_longest_42 : decode cX0_longest 42 = .ok (.iload 4, 2) := by decide +kernel
theorem dX0_longest_44 : decode cX0_longest 44 = .ok (.iload 5, 2) := by decide +kernel
theorem dX0_longest_46 : decode cX0_longest 46 = .ok (.ishr, 1) := by decide +kernel
theorem dX0_longest_47 : decode cX0_longest 47 = .ok (.iconst 1, 1) := by decide +kernel
theorem dX0_longest_48 : decode cX0_longest 48 = .ok (.iand, 1) := by decide +kernel
theorem dX0_longest_49 : decode cX0_longest 49 = .ok (.iconst 1, 1) := by decide +kernel
theorem dX0_longest_50 : decode cX0_longest 50 = .ok (.if_icmp .ne 16, 3) := by decide +kernel
theorem dX0_longest_53 : decode cX0_longest 53 = .ok (.iload 5, 2) := by decide +kernel
theorem dX0_longest_55 : decode cX0_longest 55 = .ok (.iload_n 3, 1) := by decide +kernel
theorem dX0_longest_56 : decode cX0_longest 56 = .ok (.isub, 1) := by decide +kernel
theorem dX0_longest_57 : decode cX0_longest 57 = .ok (.iload_n 2, 1) := by decide +kernel
theorem dX0_longest_58 : decode cX0_longest 58 = .ok (.if_icmp .le 8, 3) := by decide +kernel
theorem dX0_longest_61 : decode cX0_longest 61 = .ok (.iload 5, 2) := by decide +kernel
theorem dX0_longest_63 : decode cX0_longest 63 = .ok (.iload_n 3, 1) := by decide +kernel
theorem dX0_longest_64 : decode cX0_longest 64 = .ok (.isub, 1) := by decide +kernel
theorem dX0_longest_65 : decode cX0_longest 65 = .ok (.istore_n 2, 1) := by decide +kernel
theorem dX0_longest_66 : decode cX0_longest 66 = .ok (.iinc 5 1, 3) := by decide +kernel
theorem dX0_longest_69 : decode cX0_longest 69 = .ok (.goto (-36), 3) := by decide +kernel
theorem dX0_longest_72 : decode cX0_longest 72 = .ok (.iinc 3 1, 3) := by decide +kernel
theorem dX0_longest_75 : decode cX0_longest 75 = .ok (.goto (-61), 3) := by decide +kernel
theorem dX0_longest_78 : decode cX0_longest 78 = .ok (.iload_n 2, 1) := by decide +kernel
theorem dX0_longest_79 : decode cX0_longest 79 = .ok (.ireturn, 1) := by decide +kernel
abbrev cX0_empty : ByteArray := prog_1_method_16_code
def yX0_empty : MethodName := ⟨RX0, "empty", "(I)I"⟩
theorem dX0_empty_0 : decode cX0_empty 0 = .ok (.iload_n 1, 1) := by decide +kernel
theorem dX0_empty_1 : decode cX0_empty 1 = .ok (.invokestatic 42, 3) := by decide +kernel
theorem dX0_empty_4 : decode cX0_empty 4 = .ok (.ifCond .ne 5, 3) := by decide +kernel
theorem dX0_empty_7 : decode cX0_empty 7 = .ok (.iconst (-1), 1) := by decide +kernel
theorem dX0_empty_8 : decode cX0_empty 8 = .ok (.ireturn, 1) := by decide +kernel
theorem dX0_empty_9 : decode cX0_empty 9 = .ok (.aload_n 0, 1) := by decide +kernel
theorem dX0_empty_10 : decode cX0_empty 10 = .ok (.iload_n 1, 1) := by decide +kernel
theorem dX0_empty_11 : decode cX0_empty 11 = .ok (.aload_n 0, 1) := by decide +kernel
theorem dX0_empty_12 : decode cX0_empty 12 = .ok (.getfield 53, 3) := by decide +kernel
theorem dX0_empty_15 : decode cX0_empty 15 = .ok (.invokevirtual 56, 3) := by decide +kernel
theorem dX0_empty_18 : decode cX0_empty 18 = .ok (.istore_n 2, 1) := by decide +kernel
theorem dX0_empty_19 : decode cX0_empty 19 = .ok (.iload_n 2, 1) := by decide +kernel
theorem dX0_empty_20 : decode cX0_empty 20 = .ok (.aload_n 0, 1) := by decide +kernel
theorem dX0_empty_21 : decode cX0_empty 21 = .ok (.getfield 53, 3) := by decide +kernel
theorem dX0_empty_24 : decode cX0_empty 24 = .ok (.ishr, 1) := by decide +kernel
theorem dX0_empty_25 : decode cX0_empty 25 = .ok (.iconst 1, 1) := by decide +kernel
theorem dX0_empty_26 : decode cX0_empty 26 = .ok (.iand, 1) := by decide +kernel
theorem dX0_empty_27 : decode cX0_empty 27 = .ok (.ireturn, 1) := by decide +kernel
abbrev cX0_ways : ByteArray := prog_1_method_17_code
def yX0_ways : MethodName := ⟨RX0, "ways", "(III)I"⟩
theorem dX0_ways_0 : decode cX0_ways 0 = .ok (.iload_n 1, 1) := by decide +kernel
theorem dX0_ways_1 : decode cX0_ways 1 = .ok (.invokestatic 42, 3) := by decide +kernel
theorem dX0_ways_4 : decode cX0_ways 4 = .ok (.ifCond .ne 5, 3) := by decide +kernel
theorem dX0_ways_7 : decode cX0_ways 7 = .ok (.iconst (-1), 1) := by decide +kernel
theorem dX0_ways_8 : decode cX0_ways 8 = .ok (.ireturn, 1) := by decide +kernel
theorem dX0_ways_9 : decode cX0_ways 9 = .ok (.aload_n 0, 1) := by decide +kernel
theorem dX0_ways_10 : decode cX0_ways 10 = .ok (.iload_n 2, 1) := by decide +kernel
theorem dX0_ways_11 : decode cX0_ways 11 = .ok (.iload_n 3, 1) := by decide +kernel
theorem dX0_ways_12 : decode cX0_ways 12 = .ok (.invokevirtual 63, 3) := by decide +kernel
theorem dX0_ways_15 : decode cX0_ways 15 = .ok (.ifCond .ne 6, 3) := by decide +kernel
theorem dX0_ways_18 : decode cX0_ways 18 = .ok (.bipush (-2), 2) := by decide +kernel
theorem dX0_ways_20 : decode cX0_ways 20 = .ok (.ireturn, 1) := by decide +kernel
theorem dX0_ways_21 : decode cX0_ways 21 = .ok (.iconst 0, 1) := by decide +kernel
theorem dX0_ways_22 : decode cX0_ways 22 = .ok (.istore 4, 2) := by decide +kernel
theorem dX0_ways_24 : decode cX0_ways 24 = .ok (.iconst 0, 1) := by decide +kernel
theorem dX0_ways_25 : decode cX0_ways 25 = .ok (.istore 5, 2) := by decide +kernel
theorem dX0_ways_27 : decode cX0_ways 27 = .ok (.iload 5, 2) := by decide +kernel
theorem dX0_ways_29 : decode cX0_ways 29 = .ok (.aload_n 0, 1) := by decide +kernel
theorem dX0_ways_30 : decode cX0_ways 30 = .ok (.getfield 38, 3) := by decide +kernel
theorem dX0_ways_33 : decode cX0_ways 33 = .ok (.if_icmp .ge 34, 3) := by decide +kernel
theorem dX0_ways_36 : decode cX0_ways 36 = .ok (.aload_n 0, 1) := by decide +kernel
theorem dX0_ways_37 : decode cX0_ways 37 = .ok (.getfield 7, 3) := by decide +kernel
theorem dX0_ways_40 : decode cX0_ways 40 = .ok (.iload 5, 2) := by decide +kernel
theorem dX0_ways_42 : decode cX0_ways 42 = .ok (.iaload, 1) := by decide +kernel
theorem dX0_ways_43 : decode cX0_ways 43 = .ok (.iload_n 1, 1) := by decide +kernel
theorem dX0_ways_44 : decode cX0_ways 44 = .ok (.if_icmp .ne 17, 3) := by decide +kernel
theorem dX0_ways_47 : decode cX0_ways 47 = .ok (.aload_n 0, 1) := by decide +kernel
theorem dX0_ways_48 : decode cX0_ways 48 = .ok (.iload 5, 2) := by decide +kernel
theorem dX0_ways_50 : decode cX0_ways 50 = .ok (.iload_n 2, 1) := by decide +kernel
theorem dX0_ways_51 : decode cX0_ways 51 = .ok (.iload_n 3, 1) := by decide +kernel
theorem dX0_ways_52 : decode cX0_ways 52 = .ok (.invokevirtual 67, 3) := by decide +kernel
theorem dX0_ways_55 : decode cX0_ways 55 = .ok (.ifCond .eq 6, 3) := by decide +kernel
theorem dX0_ways_58 : decode cX0_ways 58 = .ok (.iinc 4 1, 3) := by decide +kernel
theorem dX0_ways_61 : decode cX0_ways 61 = .ok (.iinc 5 1, 3) := by decide +kernel
theorem dX0_ways_64 : decode cX0_ways 64 = .ok (.goto (-37), 3) := by decide +kernel
theorem dX0_ways_67 : decode cX0_ways 67 = .ok (.iload 4, 2) := by decide +kernel
theorem dX0_ways_69 : decode cX0_ways 69 = .ok (.ireturn, 1) := by decide +kernel
abbrev cX0_nextLetter : ByteArray := prog_1_method_18_code
def yX0_nextLetter : MethodName := ⟨RX0, "nextLetter", "()I"⟩
theorem dX0_nextLetter_0 : decode cX0_nextLetter 0 = .ok (.aload_n 0, 1) := by decide +kernel
theorem dX0_nextLetter_1 : decode cX0_nextLetter 1 = .ok (.getfield 53, 3) := by decide +kernel
theorem dX0_nextLetter_4 : decode cX0_nextLetter 4 = .ok (.bipush 8, 2) := by decide +kernel
theorem dX0_nextLetter_6 : decode cX0_nextLetter 6 = .ok (.if_icmp .ne 5, 3) := by decide +kernel
theorem dX0_nextLetter_9 : decode cX0_nextLetter 9 = .ok (.iconst (-1), 1) := by decide +kernel
theorem dX0_nextLetter_10 : decode cX0_nextLetter 10 = .ok (.ireturn, 1) := by decide +kernel
theorem dX0_nextLetter_11 : decode cX0_nextLetter 11 = .ok (.iconst 0, 1) := by decide +kernel
theorem dX0_nextLetter_12 : decode cX0_nextLetter 12 = .ok (.istore_n 1, 1) := by decide +kernel
theorem dX0_nextLetter_13 : decode cX0_nextLetter 13 = .ok (.aload_n 0, 1) := by decide +kernel
theorem dX0_nextLetter_14 : decode cX0_nextLetter 14 = .ok (.dup, 1) := by decide +kernel
theorem dX0_nextLetter_15 : decode cX0_nextLetter 15 = .ok (.getfield 53, 3) := by decide +kernel
theorem dX0_nextLetter_18 : decode cX0_nextLetter 18 = .ok (.iconst 1, 1) := by decide +kernel
theorem dX0_nextLetter_19 : decode cX0_nextLetter 19 = .ok (.iadd, 1) := by decide +kernel
theorem dX0_nextLetter_20 : decode cX0_nextLetter 20 = .ok (.putfield 53, 3) := by decide +kernel
theorem dX0_nextLetter_23 : decode cX0_nextLetter 23 = .ok (.bipush 7, 2) := by decide +kernel
theorem dX0_nextLetter_25 : decode cX0_nextLetter 25 = .ok (.istore_n 2, 1) := by decide +kernel
theorem dX0_nextLetter_26 : decode cX0_nextLetter 26 = .ok (.iload_n 2, 1) := by decide +kernel
theorem dX0_nextLetter_27 : decode cX0_nextLetter 27 = .ok (.iconst 5, 1) := by decide +kernel
theorem dX0_nextLetter_28 : decode cX0_nextLetter 28 = .ok (.if_icmp .lt 42, 3) := by decide +kernel
theorem dX0_nextLetter_31 : decode cX0_nextLetter 31 = .ok (.aload_n 0, 1) := by decide +kernel
theorem dX0_nextLetter_32 : decode cX0_nextLetter 32 = .ok (.getfield 19, 3) := by decide +kernel
theorem dX0_nextLetter_35 : decode cX0_nextLetter 35 = .ok (.aload_n 0, 1) := by decide +kernel
theorem dX0_nextLetter_36 : decode cX0_nextLetter 36 = .ok (.getfield 53, 3) := by decide +kernel
theorem dX0_nextLetter_39 : decode cX0_nextLetter 39 = .ok (.iconst 1, 1) := by decide +kernel
theorem dX0_nextLetter_40 : decode cX0_nextLetter 40 = .ok (.isub, 1) := by decide +kernel
theorem dX0_nextLetter_41 : decode cX0_nextLetter 41 = .ok (.iload_n 2, 1) := by decide +kernel
theorem dX0_nextLetter_42 : decode cX0_nextLetter 42 = .ok (.iastore, 1) := by decide +kernel
theorem dX0_nextLetter_43 : decode cX0_nextLetter 43 = .ok (.aload_n 0, 1) := by decide +kernel
theorem dX0_nextLetter_44 : decode cX0_nextLetter 44 = .ok (.iconst 0, 1) := by decide +kernel
theorem dX0_nextLetter_45 : decode cX0_nextLetter 45 = .ok (.iconst 0, 1) := by decide +kernel
theorem dX0_nextLetter_46 : decode cX0_nextLetter 46 = .ok (.invokevirtual 56, 3) := by decide +kernel
theorem dX0_nextLetter_49 : decode cX0_nextLetter 49 = .ok (.istore_n 3, 1) := by decide +kernel
theorem dX0_nextLetter_50 : decode cX0_nextLetter 50 = .ok (.iload_n 3, 1) := by decide +kernel
theorem dX0_nextLetter_51 : decode cX0_nextLetter 51 = .ok (.aload_n 0, 1) := by decide +kernel
theorem dX0_nextLetter_52 : decode cX0_nextLetter 52 = .ok (.getfield 53, 3) := by decide +kernel
theorem dX0_nextLetter_55 : decode cX0_nextLetter 55 = .ok (.ishr, 1) := by decide +kernel
theorem dX0_nextLetter_56 : decode cX0_nextLetter 56 = .ok (.iconst 1, 1) := by decide +kernel
theorem dX0_nextLetter_57 : decode cX0_nextLetter 57 = .ok (.iand, 1) := by decide +kernel
theorem dX0_nextLetter_58 : decode cX0_nextLetter 58 = .ok (.iconst 1, 1) := by decide +kernel
theorem dX0_nextLetter_59 : decode cX0_nextLetter 59 = .ok (.if_icmp .ne 5, 3) := by decide +kernel
theorem dX0_nextLetter_62 : decode cX0_nextLetter 62 = .ok (.iload_n 2, 1) := by decide +kernel
theorem dX0_nextLetter_63 : decode cX0_nextLetter 63 = .ok (.istore_n 1, 1) := by decide +kernel
theorem dX0_nextLetter_64 : decode cX0_nextLetter 64 = .ok (.iinc 2 (-1), 3) := by decide +kernel
theorem dX0_nextLetter_67 : decode cX0_nextLetter 67 = .ok (.goto (-41), 3) := by decide +kernel
theorem dX0_nextLetter_70 : decode cX0_nextLetter 70 = .ok (.aload_n 0, 1) := by decide +kernel
theorem dX0_nextLetter_71 : decode cX0_nextLetter 71 = .ok (.dup, 1) := by decide +kernel
theorem dX0_nextLetter_72 : decode cX0_nextLetter 72 = .ok (.getfield 53, 3) := by decide +kernel
theorem dX0_nextLetter_75 : decode cX0_nextLetter 75 = .ok (.iconst 1, 1) := by decide +kernel
theorem dX0_nextLetter_76 : decode cX0_nextLetter 76 = .ok (.isub, 1) := by decide +kernel
theorem dX0_nextLetter_77 : decode cX0_nextLetter 77 = .ok (.putfield 53, 3) := by decide +kernel
theorem dX0_nextLetter_80 : decode cX0_nextLetter 80 = .ok (.iload_n 1, 1) := by decide +kernel
theorem dX0_nextLetter_81 : decode cX0_nextLetter 81 = .ok (.ireturn, 1) := by decide +kernel
theorem q23 : (Jvm.Cond.initialized "GllRecogniser") ∈ lw_all := lw_g (lw_at lw_m1 1 rfl) rfl
theorem q26 : (Jvm.Cond.instantiable "GllRecogniser" (12 : Nat)) ∈ lw_all := lw_g (lw_at lw_m1 4 rfl) rfl
theorem q28 : (Jvm.Cond.instanceMethod ({ cls := "GllRecogniser", name := "<init>", desc := "()V" } : Jvm.MethodName)) ∈ lw_all := lw_g (lw_at lw_m1 6 rfl) rfl
theorem q29 : (Jvm.Cond.code ({ cls := "GllRecogniser", name := "<init>", desc := "()V" } : Jvm.MethodName) prog_1_method_1_code (1 : Nat) (Option.none : Option Jvm.ClassFile.FieldType)) ∈ lw_all := lw_g (lw_at lw_m1 7 rfl) rfl
theorem q30 : (Jvm.Cond.methodLink "GllRecogniser" (1 : Nat) ({ cls := "java/lang/Object", name := "<init>", desc := "()V" } : Jvm.MethodName)) ∈ lw_all := lw_g (lw_at lw_m1 8 rfl) rfl
theorem q33 : (Jvm.Cond.fieldLink "GllRecogniser" (7 : Nat) "GllRecogniser" "lefts" "[I") ∈ lw_all := lw_g (lw_at lw_m1 11 rfl) rfl
theorem q34 : (Jvm.Cond.fieldLink "GllRecogniser" (13 : Nat) "GllRecogniser" "rights" "[I") ∈ lw_all := lw_g (lw_at lw_m1 12 rfl) rfl
theorem q35 : (Jvm.Cond.fieldLink "GllRecogniser" (16 : Nat) "GllRecogniser" "sizes" "[I") ∈ lw_all := lw_g (lw_at lw_m1 13 rfl) rfl
theorem q36 : (Jvm.Cond.fieldLink "GllRecogniser" (19 : Nat) "GllRecogniser" "text" "[I") ∈ lw_all := lw_g (lw_at lw_m1 14 rfl) rfl
theorem q37 : (Jvm.Cond.fieldLink "GllRecogniser" (22 : Nat) "GllRecogniser" "seen" "[I") ∈ lw_all := lw_g (lw_at lw_m1 15 rfl) rfl
theorem q38 : (Jvm.Cond.fieldLink "GllRecogniser" (25 : Nat) "GllRecogniser" "pending" "[I") ∈ lw_all := lw_g (lw_at lw_m1 16 rfl) rfl
theorem q39 : (Jvm.Cond.fieldLink "GllRecogniser" (28 : Nat) "GllRecogniser" "callers" "[I") ∈ lw_all := lw_g (lw_at lw_m1 17 rfl) rfl
theorem q40 : (Jvm.Cond.fieldLink "GllRecogniser" (31 : Nat) "GllRecogniser" "ended" "[I") ∈ lw_all := lw_g (lw_at lw_m1 18 rfl) rfl
theorem q41 : (Jvm.Cond.fieldLink "GllRecogniser" (34 : Nat) "GllRecogniser" "opened" "[Z") ∈ lw_all := lw_g (lw_at lw_m1 19 rfl) rfl
theorem q42 : (Jvm.Cond.fieldLink "GllRecogniser" (38 : Nat) "GllRecogniser" "count" "I") ∈ lw_all := lw_g (lw_at lw_m1 20 rfl) rfl
theorem q43 : (Jvm.Cond.fieldLink "GllRecogniser" (53 : Nat) "GllRecogniser" "size" "I") ∈ lw_all := lw_g (lw_at lw_m1 21 rfl) rfl
theorem q44 : (Jvm.Cond.fieldLink "GllRecogniser" (81 : Nat) "GllRecogniser" "open" "I") ∈ lw_all := lw_g (lw_at lw_m1 22 rfl) rfl
theorem q45 : (Jvm.Cond.laysFinal "GllRecogniser" "GllRecogniser" "lefts" "[I") ∈ lw_all := lw_g (lw_at lw_m1 23 rfl) rfl
theorem q46 : (Jvm.Cond.soleField "GllRecogniser" "lefts") ∈ lw_all := lw_g (lw_at lw_m1 24 rfl) rfl
theorem q47 : (Jvm.Cond.laysFinal "GllRecogniser" "GllRecogniser" "rights" "[I") ∈ lw_all := lw_g (lw_at lw_m1 25 rfl) rfl
theorem q48 : (Jvm.Cond.soleField "GllRecogniser" "rights") ∈ lw_all := lw_g (lw_at lw_m1 26 rfl) rfl
theorem q49 : (Jvm.Cond.laysFinal "GllRecogniser" "GllRecogniser" "sizes" "[I") ∈ lw_all := lw_g (lw_at lw_m1 27 rfl) rfl
theorem q50 : (Jvm.Cond.soleField "GllRecogniser" "sizes") ∈ lw_all := lw_g (lw_at lw_m1 28 rfl) rfl
theorem q51 : (Jvm.Cond.laysFinal "GllRecogniser" "GllRecogniser" "text" "[I") ∈ lw_all := lw_g (lw_at lw_m1 29 rfl) rfl
theorem q52 : (Jvm.Cond.soleField "GllRecogniser" "text") ∈ lw_all := lw_g (lw_at lw_m1 30 rfl) rfl
theorem q53 : (Jvm.Cond.laysFinal "GllRecogniser" "GllRecogniser" "seen" "[I") ∈ lw_all := lw_g (lw_at lw_m1 31 rfl) rfl
theorem q54 : (Jvm.Cond.soleField "GllRecogniser" "seen") ∈ lw_all := lw_g (lw_at lw_m1 32 rfl) rfl
theorem q55 : (Jvm.Cond.laysFinal "GllRecogniser" "GllRecogniser" "pending" "[I") ∈ lw_all := lw_g (lw_at lw_m1 33 rfl) rfl
theorem q56 : (Jvm.Cond.soleField "GllRecogniser" "pending") ∈ lw_all := lw_g (lw_at lw_m1 34 rfl) rfl
theorem q57 : (Jvm.Cond.laysFinal "GllRecogniser" "GllRecogniser" "callers" "[I") ∈ lw_all := lw_g (lw_at lw_m1 35 rfl) rfl
theorem q58 : (Jvm.Cond.soleField "GllRecogniser" "callers") ∈ lw_all := lw_g (lw_at lw_m1 36 rfl) rfl
theorem q59 : (Jvm.Cond.laysFinal "GllRecogniser" "GllRecogniser" "ended" "[I") ∈ lw_all := lw_g (lw_at lw_m1 37 rfl) rfl
theorem q60 : (Jvm.Cond.soleField "GllRecogniser" "ended") ∈ lw_all := lw_g (lw_at lw_m1 38 rfl) rfl
theorem q61 : (Jvm.Cond.laysFinal "GllRecogniser" "GllRecogniser" "opened" "[Z") ∈ lw_all := lw_g (lw_at lw_m1 39 rfl) rfl
theorem q62 : (Jvm.Cond.soleField "GllRecogniser" "opened") ∈ lw_all := lw_g (lw_at lw_m1 40 rfl) rfl
theorem q63 : (Jvm.Cond.lays "GllRecogniser" "GllRecogniser" "count" "I") ∈ lw_all := lw_g (lw_at lw_m1 41 rfl) rfl
theorem q64 : (Jvm.Cond.soleField "GllRecogniser" "count") ∈ lw_all := lw_g (lw_at lw_m1 42 rfl) rfl
theorem q65 : (Jvm.Cond.lays "GllRecogniser" "GllRecogniser" "size" "I") ∈ lw_all := lw_g (lw_at lw_m1 43 rfl) rfl
theorem q66 : (Jvm.Cond.soleField "GllRecogniser" "size") ∈ lw_all := lw_g (lw_at lw_m1 44 rfl) rfl
theorem q67 : (Jvm.Cond.lays "GllRecogniser" "GllRecogniser" "open" "I") ∈ lw_all := lw_g (lw_at lw_m1 45 rfl) rfl
theorem q68 : (Jvm.Cond.soleField "GllRecogniser" "open") ∈ lw_all := lw_g (lw_at lw_m1 46 rfl) rfl
theorem q69 : (Jvm.Cond.superclass "GllRecogniser" "java/lang/Object") ∈ lw_all := lw_g (lw_at lw_m1 47 rfl) rfl
theorem q73 : (Jvm.Cond.instanceMethod ({ cls := "GllRecogniser", name := "rule", desc := "(II)I" } : Jvm.MethodName)) ∈ lw_all := lw_g (lw_at lw_m1 51 rfl) rfl
theorem q74 : (Jvm.Cond.selects "GllRecogniser" ({ cls := "GllRecogniser", name := "rule", desc := "(II)I" } : Jvm.MethodName) ({ cls := "GllRecogniser", name := "rule", desc := "(II)I" } : Jvm.MethodName)) ∈ lw_all := lw_g (lw_at lw_m1 52 rfl) rfl
theorem q75 : (Jvm.Cond.code ({ cls := "GllRecogniser", name := "rule", desc := "(II)I" } : Jvm.MethodName) prog_1_method_2_code (6 : Nat) (Option.some Jvm.ClassFile.FieldType.int)) ∈ lw_all := lw_g (lw_at lw_m1 53 rfl) rfl
theorem q76 : (Jvm.Cond.methodLink "GllRecogniser" (42 : Nat) ({ cls := "GllRecogniser", name := "isName", desc := "(I)Z" } : Jvm.MethodName)) ∈ lw_all := lw_g (lw_at lw_m1 54 rfl) rfl
theorem q77 : (Jvm.Cond.static ({ cls := "GllRecogniser", name := "isName", desc := "(I)Z" } : Jvm.MethodName)) ∈ lw_all := lw_g (lw_at lw_m1 55 rfl) rfl
theorem q78 : (Jvm.Cond.code ({ cls := "GllRecogniser", name := "isName", desc := "(I)Z" } : Jvm.MethodName) prog_1_method_19_code (1 : Nat) (Option.some Jvm.ClassFile.FieldType.boolean)) ∈ lw_all := lw_g (lw_at lw_m1 56 rfl) rfl
theorem q79 : (Jvm.Cond.methodLink "GllRecogniser" (46 : Nat) ({ cls := "GllRecogniser", name := "rowSize", desc := "(I)I" } : Jvm.MethodName)) ∈ lw_all := lw_g (lw_at lw_m1 57 rfl) rfl
theorem q80 : (Jvm.Cond.static ({ cls := "GllRecogniser", name := "rowSize", desc := "(I)I" } : Jvm.MethodName)) ∈ lw_all := lw_g (lw_at lw_m1 58 rfl) rfl
theorem q81 : (Jvm.Cond.code ({ cls := "GllRecogniser", name := "rowSize", desc := "(I)I" } : Jvm.MethodName) prog_1_method_23_code (3 : Nat) (Option.some Jvm.ClassFile.FieldType.int)) ∈ lw_all := lw_g (lw_at lw_m1 59 rfl) rfl
theorem q83 : (Jvm.Cond.instanceMethod ({ cls := "GllRecogniser", name := "drop", desc := "(I)I" } : Jvm.MethodName)) ∈ lw_all := lw_g (lw_at lw_m1 61 rfl) rfl
theorem q84 : (Jvm.Cond.selects "GllRecogniser" ({ cls := "GllRecogniser", name := "drop", desc := "(I)I" } : Jvm.MethodName) ({ cls := "GllRecogniser", name := "drop", desc := "(I)I" } : Jvm.MethodName)) ∈ lw_all := lw_g (lw_at lw_m1 62 rfl) rfl
theorem q85 : (Jvm.Cond.code ({ cls := "GllRecogniser", name := "drop", desc := "(I)I" } : Jvm.MethodName) prog_1_method_3_code (4 : Nat) (Option.some Jvm.ClassFile.FieldType.int)) ∈ lw_all := lw_g (lw_at lw_m1 63 rfl) rfl
theorem q86 : (Jvm.Cond.methodLink "GllRecogniser" (50 : Nat) ({ cls := "GllRecogniser", name := "isRule", desc := "(I)Z" } : Jvm.MethodName)) ∈ lw_all := lw_g (lw_at lw_m1 64 rfl) rfl
theorem q87 : (Jvm.Cond.privateMethod ({ cls := "GllRecogniser", name := "isRule", desc := "(I)Z" } : Jvm.MethodName)) ∈ lw_tbl := lw_at lw_m1 65 rfl
theorem q88 : (Jvm.Cond.instanceMethod ({ cls := "GllRecogniser", name := "isRule", desc := "(I)Z" } : Jvm.MethodName)) ∈ lw_all := lw_g (lw_at lw_m1 66 rfl) rfl
theorem q89 : (Jvm.Cond.code ({ cls := "GllRecogniser", name := "isRule", desc := "(I)Z" } : Jvm.MethodName) prog_1_method_21_code (2 : Nat) (Option.some Jvm.ClassFile.FieldType.boolean)) ∈ lw_all := lw_g (lw_at lw_m1 67 rfl) rfl
theorem q91 : (Jvm.Cond.instanceMethod ({ cls := "GllRecogniser", name := "clear", desc := "()I" } : Jvm.MethodName)) ∈ lw_all := lw_g (lw_at lw_m1 69 rfl) rfl
theorem q92 : (Jvm.Cond.selects "GllRecogniser" ({ cls := "GllRecogniser", name := "clear", desc := "()I" } : Jvm.MethodName) ({ cls := "GllRecogniser", name := "clear", desc := "()I" } : Jvm.MethodName)) ∈ lw_all := lw_g (lw_at lw_m1 70 rfl) rfl
theorem q93 : (Jvm.Cond.code ({ cls := "GllRecogniser", name := "clear", desc := "()I" } : Jvm.MethodName) prog_1_method_4_code (2 : Nat) (Option.some Jvm.ClassFile.FieldType.int)) ∈ lw_all := lw_g (lw_at lw_m1 71 rfl) rfl
theorem q95 : (Jvm.Cond.instanceMethod ({ cls := "GllRecogniser", name := "rules", desc := "()I" } : Jvm.MethodName)) ∈ lw_all := lw_g (lw_at lw_m1 73 rfl) rfl
theorem q96 : (Jvm.Cond.selects "GllRecogniser" ({ cls := "GllRecogniser", name := "rules", desc := "()I" } : Jvm.MethodName) ({ cls := "GllRecogniser", name := "rules", desc := "()I" } : Jvm.MethodName)) ∈ lw_all := lw_g (lw_at lw_m1 74 rfl) rfl
theorem q97 : (Jvm.Cond.code ({ cls := "GllRecogniser", name := "rules", desc := "()I" } : Jvm.MethodName) prog_1_method_5_code (1 : Nat) (Option.some Jvm.ClassFile.FieldType.int)) ∈ lw_all := lw_g (lw_at lw_m1 75 rfl) rfl
theorem q99 : (Jvm.Cond.instanceMethod ({ cls := "GllRecogniser", name := "push", desc := "(I)I" } : Jvm.MethodName)) ∈ lw_all := lw_g (lw_at lw_m1 77 rfl) rfl
theorem q100 : (Jvm.Cond.selects "GllRecogniser" ({ cls := "GllRecogniser", name := "push", desc := "(I)I" } : Jvm.MethodName) ({ cls := "GllRecogniser", name := "push", desc := "(I)I" } : Jvm.MethodName)) ∈ lw_all := lw_g (lw_at lw_m1 78 rfl) rfl
theorem q101 : (Jvm.Cond.code ({ cls := "GllRecogniser", name := "push", desc := "(I)I" } : Jvm.MethodName) prog_1_method_6_code (2 : Nat) (Option.some Jvm.ClassFile.FieldType.int)) ∈ lw_all := lw_g (lw_at lw_m1 79 rfl) rfl
theorem q103 : (Jvm.Cond.instanceMethod ({ cls := "GllRecogniser", name := "pop", desc := "()I" } : Jvm.MethodName)) ∈ lw_all := lw_g (lw_at lw_m1 81 rfl) rfl
theorem q104 : (Jvm.Cond.selects "GllRecogniser" ({ cls := "GllRecogniser", name := "pop", desc := "()I" } : Jvm.MethodName) ({ cls := "GllRecogniser", name := "pop", desc := "()I" } : Jvm.MethodName)) ∈ lw_all := lw_g (lw_at lw_m1 82 rfl) rfl
theorem q105 : (Jvm.Cond.code ({ cls := "GllRecogniser", name := "pop", desc := "()I" } : Jvm.MethodName) prog_1_method_7_code (1 : Nat) (Option.some Jvm.ClassFile.FieldType.int)) ∈ lw_all := lw_g (lw_at lw_m1 83 rfl) rfl
theorem q107 : (Jvm.Cond.instanceMethod ({ cls := "GllRecogniser", name := "write", desc := "(II)I" } : Jvm.MethodName)) ∈ lw_all := lw_g (lw_at lw_m1 85 rfl) rfl
theorem q108 : (Jvm.Cond.selects "GllRecogniser" ({ cls := "GllRecogniser", name := "write", desc := "(II)I" } : Jvm.MethodName) ({ cls := "GllRecogniser", name := "write", desc := "(II)I" } : Jvm.MethodName)) ∈ lw_all := lw_g (lw_at lw_m1 86 rfl) rfl
theorem q109 : (Jvm.Cond.code ({ cls := "GllRecogniser", name := "write", desc := "(II)I" } : Jvm.MethodName) prog_1_method_8_code (6 : Nat) (Option.some Jvm.ClassFile.FieldType.int)) ∈ lw_all := lw_g (lw_at lw_m1 87 rfl) rfl
theorem q111 : (Jvm.Cond.instanceMethod ({ cls := "GllRecogniser", name := "length", desc := "()I" } : Jvm.MethodName)) ∈ lw_all := lw_g (lw_at lw_m1 89 rfl) rfl
theorem q112 : (Jvm.Cond.selects "GllRecogniser" ({ cls := "GllRecogniser", name := "length", desc := "()I" } : Jvm.MethodName) ({ cls := "GllRecogniser", name := "length", desc := "()I" } : Jvm.MethodName)) ∈ lw_all := lw_g (lw_at lw_m1 90 rfl) rfl
theorem q113 : (Jvm.Cond.code ({ cls := "GllRecogniser", name := "length", desc := "()I" } : Jvm.MethodName) prog_1_method_9_code (1 : Nat) (Option.some Jvm.ClassFile.FieldType.int)) ∈ lw_all := lw_g (lw_at lw_m1 91 rfl) rfl
theorem q115 : (Jvm.Cond.instanceMethod ({ cls := "GllRecogniser", name := "accepts", desc := "()I" } : Jvm.MethodName)) ∈ lw_all := lw_g (lw_at lw_m1 93 rfl) rfl
theorem q116 : (Jvm.Cond.selects "GllRecogniser" ({ cls := "GllRecogniser", name := "accepts", desc := "()I" } : Jvm.MethodName) ({ cls := "GllRecogniser", name := "accepts", desc := "()I" } : Jvm.MethodName)) ∈ lw_all := lw_g (lw_at lw_m1 94 rfl) rfl
theorem q117 : (Jvm.Cond.code ({ cls := "GllRecogniser", name := "accepts", desc := "()I" } : Jvm.MethodName) prog_1_method_10_code (2 : Nat) (Option.some Jvm.ClassFile.FieldType.int)) ∈ lw_all := lw_g (lw_at lw_m1 95 rfl) rfl
theorem q118 : (Jvm.Cond.methodLink "GllRecogniser" (56 : Nat) ({ cls := "GllRecogniser", name := "endsOf", desc := "(II)I" } : Jvm.MethodName)) ∈ lw_all := lw_g (lw_at lw_m1 96 rfl) rfl
theorem q119 : (Jvm.Cond.privateMethod ({ cls := "GllRecogniser", name := "endsOf", desc := "(II)I" } : Jvm.MethodName)) ∈ lw_tbl := lw_at lw_m1 97 rfl
theorem q120 : (Jvm.Cond.instanceMethod ({ cls := "GllRecogniser", name := "endsOf", desc := "(II)I" } : Jvm.MethodName)) ∈ lw_all := lw_g (lw_at lw_m1 98 rfl) rfl
theorem q121 : (Jvm.Cond.code ({ cls := "GllRecogniser", name := "endsOf", desc := "(II)I" } : Jvm.MethodName) prog_1_method_24_code (3 : Nat) (Option.some Jvm.ClassFile.FieldType.int)) ∈ lw_all := lw_g (lw_at lw_m1 99 rfl) rfl
theorem q122 : (Jvm.Cond.methodLink "GllRecogniser" (71 : Nat) ({ cls := "GllRecogniser", name := "start", desc := "()V" } : Jvm.MethodName)) ∈ lw_all := lw_g (lw_at lw_m1 100 rfl) rfl
theorem q123 : (Jvm.Cond.privateMethod ({ cls := "GllRecogniser", name := "start", desc := "()V" } : Jvm.MethodName)) ∈ lw_tbl := lw_at lw_m1 101 rfl
theorem q124 : (Jvm.Cond.instanceMethod ({ cls := "GllRecogniser", name := "start", desc := "()V" } : Jvm.MethodName)) ∈ lw_all := lw_g (lw_at lw_m1 102 rfl) rfl
theorem q125 : (Jvm.Cond.code ({ cls := "GllRecogniser", name := "start", desc := "()V" } : Jvm.MethodName) prog_1_method_25_code (2 : Nat) (Option.none : Option Jvm.ClassFile.FieldType)) ∈ lw_all := lw_g (lw_at lw_m1 103 rfl) rfl
theorem q126 : (Jvm.Cond.methodLink "GllRecogniser" (74 : Nat) ({ cls := "GllRecogniser", name := "call", desc := "(I)V" } : Jvm.MethodName)) ∈ lw_all := lw_g (lw_at lw_m1 104 rfl) rfl
theorem q127 : (Jvm.Cond.privateMethod ({ cls := "GllRecogniser", name := "call", desc := "(I)V" } : Jvm.MethodName)) ∈ lw_tbl := lw_at lw_m1 105 rfl
theorem q128 : (Jvm.Cond.instanceMethod ({ cls := "GllRecogniser", name := "call", desc := "(I)V" } : Jvm.MethodName)) ∈ lw_all := lw_g (lw_at lw_m1 106 rfl) rfl
theorem q129 : (Jvm.Cond.code ({ cls := "GllRecogniser", name := "call", desc := "(I)V" } : Jvm.MethodName) prog_1_method_26_code (3 : Nat) (Option.none : Option Jvm.ClassFile.FieldType)) ∈ lw_all := lw_g (lw_at lw_m1 107 rfl) rfl
theorem q130 : (Jvm.Cond.methodLink "GllRecogniser" (84 : Nat) ({ cls := "GllRecogniser", name := "add", desc := "(III)V" } : Jvm.MethodName)) ∈ lw_all := lw_g (lw_at lw_m1 108 rfl) rfl
theorem q131 : (Jvm.Cond.privateMethod ({ cls := "GllRecogniser", name := "add", desc := "(III)V" } : Jvm.MethodName)) ∈ lw_tbl := lw_at lw_m1 109 rfl
theorem q132 : (Jvm.Cond.instanceMethod ({ cls := "GllRecogniser", name := "add", desc := "(III)V" } : Jvm.MethodName)) ∈ lw_all := lw_g (lw_at lw_m1 110 rfl) rfl
theorem q133 : (Jvm.Cond.code ({ cls := "GllRecogniser", name := "add", desc := "(III)V" } : Jvm.MethodName) prog_1_method_27_code (6 : Nat) (Option.none : Option Jvm.ClassFile.FieldType)) ∈ lw_all := lw_g (lw_at lw_m1 111 rfl) rfl
theorem q134 : (Jvm.Cond.methodLink "GllRecogniser" (78 : Nat) ({ cls := "GllRecogniser", name := "run", desc := "()V" } : Jvm.MethodName)) ∈ lw_all := lw_g (lw_at lw_m1 112 rfl) rfl
theorem q135 : (Jvm.Cond.privateMethod ({ cls := "GllRecogniser", name := "run", desc := "()V" } : Jvm.MethodName)) ∈ lw_tbl := lw_at lw_m1 113 rfl
theorem q136 : (Jvm.Cond.instanceMethod ({ cls := "GllRecogniser", name := "run", desc := "()V" } : Jvm.MethodName)) ∈ lw_all := lw_g (lw_at lw_m1 114 rfl) rfl
theorem q137 : (Jvm.Cond.code ({ cls := "GllRecogniser", name := "run", desc := "()V" } : Jvm.MethodName) prog_1_method_28_code (3 : Nat) (Option.none : Option Jvm.ClassFile.FieldType)) ∈ lw_all := lw_g (lw_at lw_m1 115 rfl) rfl
theorem q138 : (Jvm.Cond.methodLink "GllRecogniser" (88 : Nat) ({ cls := "GllRecogniser", name := "handleWord", desc := "(I)V" } : Jvm.MethodName)) ∈ lw_all := lw_g (lw_at lw_m1 116 rfl) rfl
theorem q139 : (Jvm.Cond.privateMethod ({ cls := "GllRecogniser", name := "handleWord", desc := "(I)V" } : Jvm.MethodName)) ∈ lw_tbl := lw_at lw_m1 117 rfl
theorem q140 : (Jvm.Cond.instanceMethod ({ cls := "GllRecogniser", name := "handleWord", desc := "(I)V" } : Jvm.MethodName)) ∈ lw_all := lw_g (lw_at lw_m1 118 rfl) rfl
theorem q141 : (Jvm.Cond.code ({ cls := "GllRecogniser", name := "handleWord", desc := "(I)V" } : Jvm.MethodName) prog_1_method_29_code (5 : Nat) (Option.none : Option Jvm.ClassFile.FieldType)) ∈ lw_all := lw_g (lw_at lw_m1 119 rfl) rfl
theorem q142 : (Jvm.Cond.methodLink "GllRecogniser" (91 : Nat) ({ cls := "GllRecogniser", name := "handle", desc := "(III)V" } : Jvm.MethodName)) ∈ lw_all := lw_g (lw_at lw_m1 120 rfl) rfl
theorem q143 : (Jvm.Cond.privateMethod ({ cls := "GllRecogniser", name := "handle", desc := "(III)V" } : Jvm.MethodName)) ∈ lw_tbl := lw_at lw_m1 121 rfl
theorem q144 : (Jvm.Cond.instanceMethod ({ cls := "GllRecogniser", name := "handle", desc := "(III)V" } : Jvm.MethodName)) ∈ lw_all := lw_g (lw_at lw_m1 122 rfl) rfl
theorem q145 : (Jvm.Cond.code ({ cls := "GllRecogniser", name := "handle", desc := "(III)V" } : Jvm.MethodName) prog_1_method_30_code (7 : Nat) (Option.none : Option Jvm.ClassFile.FieldType)) ∈ lw_all := lw_g (lw_at lw_m1 123 rfl) rfl
theorem q146 : (Jvm.Cond.methodLink "GllRecogniser" (94 : Nat) ({ cls := "GllRecogniser", name := "finish", desc := "(II)V" } : Jvm.MethodName)) ∈ lw_all := lw_g (lw_at lw_m1 124 rfl) rfl
theorem q147 : (Jvm.Cond.privateMethod ({ cls := "GllRecogniser", name := "finish", desc := "(II)V" } : Jvm.MethodName)) ∈ lw_tbl := lw_at lw_m1 125 rfl
theorem q148 : (Jvm.Cond.instanceMethod ({ cls := "GllRecogniser", name := "finish", desc := "(II)V" } : Jvm.MethodName)) ∈ lw_all := lw_g (lw_at lw_m1 126 rfl) rfl
theorem q149 : (Jvm.Cond.code ({ cls := "GllRecogniser", name := "finish", desc := "(II)V" } : Jvm.MethodName) prog_1_method_31_code (4 : Nat) (Option.none : Option Jvm.ClassFile.FieldType)) ∈ lw_all := lw_g (lw_at lw_m1 127 rfl) rfl
theorem q150 : (Jvm.Cond.methodLink "GllRecogniser" (98 : Nat) ({ cls := "GllRecogniser", name := "attend", desc := "(III)V" } : Jvm.MethodName)) ∈ lw_all := lw_g (lw_at lw_m1 128 rfl) rfl
theorem q151 : (Jvm.Cond.privateMethod ({ cls := "GllRecogniser", name := "attend", desc := "(III)V" } : Jvm.MethodName)) ∈ lw_tbl := lw_at lw_m1 129 rfl
theorem q152 : (Jvm.Cond.instanceMethod ({ cls := "GllRecogniser", name := "attend", desc := "(III)V" } : Jvm.MethodName)) ∈ lw_all := lw_g (lw_at lw_m1 130 rfl) rfl
theorem q153 : (Jvm.Cond.code ({ cls := "GllRecogniser", name := "attend", desc := "(III)V" } : Jvm.MethodName) prog_1_method_32_code (8 : Nat) (Option.none : Option Jvm.ClassFile.FieldType)) ∈ lw_all := lw_g (lw_at lw_m1 131 rfl) rfl
theorem q155 : (Jvm.Cond.instanceMethod ({ cls := "GllRecogniser", name := "fits", desc := "(III)I" } : Jvm.MethodName)) ∈ lw_all := lw_g (lw_at lw_m1 133 rfl) rfl
theorem q156 : (Jvm.Cond.selects "GllRecogniser" ({ cls := "GllRecogniser", name := "fits", desc := "(III)I" } : Jvm.MethodName) ({ cls := "GllRecogniser", name := "fits", desc := "(III)I" } : Jvm.MethodName)) ∈ lw_all := lw_g (lw_at lw_m1 134 rfl) rfl
theorem q157 : (Jvm.Cond.code ({ cls := "GllRecogniser", name := "fits", desc := "(III)I" } : Jvm.MethodName) prog_1_method_11_code (5 : Nat) (Option.some Jvm.ClassFile.FieldType.int)) ∈ lw_all := lw_g (lw_at lw_m1 135 rfl) rfl
theorem q158 : (Jvm.Cond.methodLink "GllRecogniser" (60 : Nat) ({ cls := "GllRecogniser", name := "isSign", desc := "(I)Z" } : Jvm.MethodName)) ∈ lw_all := lw_g (lw_at lw_m1 136 rfl) rfl
theorem q159 : (Jvm.Cond.static ({ cls := "GllRecogniser", name := "isSign", desc := "(I)Z" } : Jvm.MethodName)) ∈ lw_all := lw_g (lw_at lw_m1 137 rfl) rfl
theorem q160 : (Jvm.Cond.code ({ cls := "GllRecogniser", name := "isSign", desc := "(I)Z" } : Jvm.MethodName) prog_1_method_20_code (1 : Nat) (Option.some Jvm.ClassFile.FieldType.boolean)) ∈ lw_all := lw_g (lw_at lw_m1 138 rfl) rfl
theorem q161 : (Jvm.Cond.methodLink "GllRecogniser" (63 : Nat) ({ cls := "GllRecogniser", name := "isStretch", desc := "(II)Z" } : Jvm.MethodName)) ∈ lw_all := lw_g (lw_at lw_m1 139 rfl) rfl
theorem q162 : (Jvm.Cond.privateMethod ({ cls := "GllRecogniser", name := "isStretch", desc := "(II)Z" } : Jvm.MethodName)) ∈ lw_tbl := lw_at lw_m1 140 rfl
theorem q163 : (Jvm.Cond.instanceMethod ({ cls := "GllRecogniser", name := "isStretch", desc := "(II)Z" } : Jvm.MethodName)) ∈ lw_all := lw_g (lw_at lw_m1 141 rfl) rfl
theorem q164 : (Jvm.Cond.code ({ cls := "GllRecogniser", name := "isStretch", desc := "(II)Z" } : Jvm.MethodName) prog_1_method_22_code (3 : Nat) (Option.some Jvm.ClassFile.FieldType.boolean)) ∈ lw_all := lw_g (lw_at lw_m1 142 rfl) rfl
theorem q166 : (Jvm.Cond.instanceMethod ({ cls := "GllRecogniser", name := "ends", desc := "(II)I" } : Jvm.MethodName)) ∈ lw_all := lw_g (lw_at lw_m1 144 rfl) rfl
theorem q167 : (Jvm.Cond.selects "GllRecogniser" ({ cls := "GllRecogniser", name := "ends", desc := "(II)I" } : Jvm.MethodName) ({ cls := "GllRecogniser", name := "ends", desc := "(II)I" } : Jvm.MethodName)) ∈ lw_all := lw_g (lw_at lw_m1 145 rfl) rfl
theorem q168 : (Jvm.Cond.code ({ cls := "GllRecogniser", name := "ends", desc := "(II)I" } : Jvm.MethodName) prog_1_method_12_code (3 : Nat) (Option.some Jvm.ClassFile.FieldType.int)) ∈ lw_all := lw_g (lw_at lw_m1 146 rfl) rfl
theorem q170 : (Jvm.Cond.instanceMethod ({ cls := "GllRecogniser", name := "ruleFits", desc := "(III)I" } : Jvm.MethodName)) ∈ lw_all := lw_g (lw_at lw_m1 148 rfl) rfl
theorem q171 : (Jvm.Cond.selects "GllRecogniser" ({ cls := "GllRecogniser", name := "ruleFits", desc := "(III)I" } : Jvm.MethodName) ({ cls := "GllRecogniser", name := "ruleFits", desc := "(III)I" } : Jvm.MethodName)) ∈ lw_all := lw_g (lw_at lw_m1 149 rfl) rfl
theorem q172 : (Jvm.Cond.code ({ cls := "GllRecogniser", name := "ruleFits", desc := "(III)I" } : Jvm.MethodName) prog_1_method_13_code (4 : Nat) (Option.some Jvm.ClassFile.FieldType.int)) ∈ lw_all := lw_g (lw_at lw_m1 150 rfl) rfl
theorem q173 : (Jvm.Cond.methodLink "GllRecogniser" (67 : Nat) ({ cls := "GllRecogniser", name := "doesFit", desc := "(III)Z" } : Jvm.MethodName)) ∈ lw_all := lw_g (lw_at lw_m1 151 rfl) rfl
theorem q174 : (Jvm.Cond.privateMethod ({ cls := "GllRecogniser", name := "doesFit", desc := "(III)Z" } : Jvm.MethodName)) ∈ lw_tbl := lw_at lw_m1 152 rfl
theorem q175 : (Jvm.Cond.instanceMethod ({ cls := "GllRecogniser", name := "doesFit", desc := "(III)Z" } : Jvm.MethodName)) ∈ lw_all := lw_g (lw_at lw_m1 153 rfl) rfl
theorem q176 : (Jvm.Cond.code ({ cls := "GllRecogniser", name := "doesFit", desc := "(III)Z" } : Jvm.MethodName) prog_1_method_33_code (8 : Nat) (Option.some Jvm.ClassFile.FieldType.boolean)) ∈ lw_all := lw_g (lw_at lw_m1 154 rfl) rfl
theorem q178 : (Jvm.Cond.instanceMethod ({ cls := "GllRecogniser", name := "stretches", desc := "(I)I" } : Jvm.MethodName)) ∈ lw_all := lw_g (lw_at lw_m1 156 rfl) rfl
theorem q179 : (Jvm.Cond.selects "GllRecogniser" ({ cls := "GllRecogniser", name := "stretches", desc := "(I)I" } : Jvm.MethodName) ({ cls := "GllRecogniser", name := "stretches", desc := "(I)I" } : Jvm.MethodName)) ∈ lw_all := lw_g (lw_at lw_m1 157 rfl) rfl
theorem q180 : (Jvm.Cond.code ({ cls := "GllRecogniser", name := "stretches", desc := "(I)I" } : Jvm.MethodName) prog_1_method_14_code (6 : Nat) (Option.some Jvm.ClassFile.FieldType.int)) ∈ lw_all := lw_g (lw_at lw_m1 158 rfl) rfl
theorem q182 : (Jvm.Cond.instanceMethod ({ cls := "GllRecogniser", name := "longest", desc := "(I)I" } : Jvm.MethodName)) ∈ lw_all := lw_g (lw_at lw_m1 160 rfl) rfl
theorem q183 : (Jvm.Cond.selects "GllRecogniser" ({ cls := "GllRecogniser", name := "longest", desc := "(I)I" } : Jvm.MethodName) ({ cls := "GllRecogniser", name := "longest", desc := "(I)I" } : Jvm.MethodName)) ∈ lw_all := lw_g (lw_at lw_m1 161 rfl) rfl
theorem q184 : (Jvm.Cond.code ({ cls := "GllRecogniser", name := "longest", desc := "(I)I" } : Jvm.MethodName) prog_1_method_15_code (6 : Nat) (Option.some Jvm.ClassFile.FieldType.int)) ∈ lw_all := lw_g (lw_at lw_m1 162 rfl) rfl
theorem q186 : (Jvm.Cond.instanceMethod ({ cls := "GllRecogniser", name := "empty", desc := "(I)I" } : Jvm.MethodName)) ∈ lw_all := lw_g (lw_at lw_m1 164 rfl) rfl
theorem q187 : (Jvm.Cond.selects "GllRecogniser" ({ cls := "GllRecogniser", name := "empty", desc := "(I)I" } : Jvm.MethodName) ({ cls := "GllRecogniser", name := "empty", desc := "(I)I" } : Jvm.MethodName)) ∈ lw_all := lw_g (lw_at lw_m1 165 rfl) rfl
theorem q188 : (Jvm.Cond.code ({ cls := "GllRecogniser", name := "empty", desc := "(I)I" } : Jvm.MethodName) prog_1_method_16_code (3 : Nat) (Option.some Jvm.ClassFile.FieldType.int)) ∈ lw_all := lw_g (lw_at lw_m1 166 rfl) rfl
theorem q190 : (Jvm.Cond.instanceMethod ({ cls := "GllRecogniser", name := "ways", desc := "(III)I" } : Jvm.MethodName)) ∈ lw_all := lw_g (lw_at lw_m1 168 rfl) rfl
theorem q191 : (Jvm.Cond.selects "GllRecogniser" ({ cls := "GllRecogniser", name := "ways", desc := "(III)I" } : Jvm.MethodName) ({ cls := "GllRecogniser", name := "ways", desc := "(III)I" } : Jvm.MethodName)) ∈ lw_all := lw_g (lw_at lw_m1 169 rfl) rfl
theorem q192 : (Jvm.Cond.code ({ cls := "GllRecogniser", name := "ways", desc := "(III)I" } : Jvm.MethodName) prog_1_method_17_code (6 : Nat) (Option.some Jvm.ClassFile.FieldType.int)) ∈ lw_all := lw_g (lw_at lw_m1 170 rfl) rfl
theorem q194 : (Jvm.Cond.instanceMethod ({ cls := "GllRecogniser", name := "nextLetter", desc := "()I" } : Jvm.MethodName)) ∈ lw_all := lw_g (lw_at lw_m1 172 rfl) rfl
theorem q195 : (Jvm.Cond.selects "GllRecogniser" ({ cls := "GllRecogniser", name := "nextLetter", desc := "()I" } : Jvm.MethodName) ({ cls := "GllRecogniser", name := "nextLetter", desc := "()I" } : Jvm.MethodName)) ∈ lw_all := lw_g (lw_at lw_m1 173 rfl) rfl
theorem q196 : (Jvm.Cond.code ({ cls := "GllRecogniser", name := "nextLetter", desc := "()I" } : Jvm.MethodName) prog_1_method_18_code (4 : Nat) (Option.some Jvm.ClassFile.FieldType.int)) ∈ lw_all := lw_g (lw_at lw_m1 174 rfl) rfl
theorem in_X0 : ∀ w ∈ wsX00, w ∈ lw_all := lw_in wsX00 [45, 47, 49, 51, 53, 55, 57, 59, 61, 63, 65, 67] (by decide +kernel) (by decide +kernel)
end
section
/-! GllRecogniserModel -/
set_option maxRecDepth 100000
def RX1 : String := "GllRecogniserModel"
def TX1 : u_T := fun k => match k with
  | 0 => ("GllRecogniserModel", "count", "I", false)
  | 1 => ("GllRecogniserModel", "left", "[I", false)
  | 2 => ("GllRecogniserModel", "right", "[I", false)
  | 3 => ("GllRecogniserModel", "length", "I", false)
  | 4 => ("GllRecogniserModel", "text", "[I", false)
  | _ => ("GllRecogniserModel", "table", "[Z", false)
def tyX1 : Nat → FieldType := fun k => match k with
  | 0 => .int
  | 1 => .array .int
  | 2 => .array .int
  | 3 => .int
  | 4 => .array .int
  | _ => .array .boolean
abbrev wsX10 : List Cond := u_ws RX1 TX1 6
theorem nmX1 : ∀ a, a < 6 → ∀ b, b < 6 → a ≠ b → (TX1 a).2.1 ≠ (TX1 b).2.1 := by decide +kernel
theorem tyX1_ok : ∀ k, k < 6 → parseFieldDescriptor (TX1 k).2.2.1 = some (tyX1 k) := by decide +kernel
abbrev cX1_init : ByteArray := prog_3_method_1_code
def yX1_init : MethodName := ⟨RX1, "<init>", "()V"⟩
theorem dX1_init_0 : decode cX1_init 0 = .ok (.aload_n 0, 1) := by decide +kernel
theorem dX1_init_1 : decode cX1_init 1 = .ok (.invokespecial 1, 3) := by decide +kernel
theorem dX1_init_4 : decode cX1_init 4 = .ok (.aload_n 0, 1) := by decide +kernel
theorem dX1_init_5 : decode cX1_init 5 = .ok (.bipush 12, 2) := by decide +kernel
theorem dX1_init_7 : decode cX1_init 7 = .ok (.newarray .int, 2) := by decide +kernel
theorem dX1_init_9 : decode cX1_init 9 = .ok (.putfield 7, 3) := by decide +kernel
theorem dX1_init_12 : decode cX1_init 12 = .ok (.aload_n 0, 1) := by decide +kernel
theorem dX1_init_13 : decode cX1_init 13 = .ok (.bipush 12, 2) := by decide +kernel
theorem dX1_init_15 : decode cX1_init 15 = .ok (.newarray .int, 2) := by decide +kernel
theorem dX1_init_17 : decode cX1_init 17 = .ok (.putfield 13, 3) := by decide +kernel
theorem dX1_init_20 : decode cX1_init 20 = .ok (.aload_n 0, 1) := by decide +kernel
theorem dX1_init_21 : decode cX1_init 21 = .ok (.bipush 8, 2) := by decide +kernel
theorem dX1_init_23 : decode cX1_init 23 = .ok (.newarray .int, 2) := by decide +kernel
theorem dX1_init_25 : decode cX1_init 25 = .ok (.putfield 16, 3) := by decide +kernel
theorem dX1_init_28 : decode cX1_init 28 = .ok (.aload_n 0, 1) := by decide +kernel
theorem dX1_init_29 : decode cX1_init 29 = .ok (.sipush 405, 3) := by decide +kernel
theorem dX1_init_32 : decode cX1_init 32 = .ok (.newarray .boolean, 2) := by decide +kernel
theorem dX1_init_34 : decode cX1_init 34 = .ok (.putfield 19, 3) := by decide +kernel
theorem dX1_init_37 : decode cX1_init 37 = .ok (.return_, 1) := by decide +kernel
abbrev cX1_rule : ByteArray := prog_3_method_3_code
def yX1_rule : MethodName := ⟨RX1, "rule", "(II)I"⟩
theorem dX1_rule_0 : decode cX1_rule 0 = .ok (.iload_n 1, 1) := by decide +kernel
theorem dX1_rule_1 : decode cX1_rule 1 = .ok (.ifCond .lt 8, 3) := by decide +kernel
theorem dX1_rule_4 : decode cX1_rule 4 = .ok (.iload_n 1, 1) := by decide +kernel
theorem dX1_rule_5 : decode cX1_rule 5 = .ok (.iconst 4, 1) := by decide +kernel
theorem dX1_rule_6 : decode cX1_rule 6 = .ok (.if_icmp .le 5, 3) := by decide +kernel
theorem dX1_rule_9 : decode cX1_rule 9 = .ok (.iconst (-1), 1) := by decide +kernel
theorem dX1_rule_10 : decode cX1_rule 10 = .ok (.ireturn, 1) := by decide +kernel
theorem dX1_rule_11 : decode cX1_rule 11 = .ok (.aload_n 0, 1) := by decide +kernel
theorem dX1_rule_12 : decode cX1_rule 12 = .ok (.iload_n 2, 1) := by decide +kernel
theorem dX1_rule_13 : decode cX1_rule 13 = .ok (.invokevirtual 23, 3) := by decide +kernel
theorem dX1_rule_16 : decode cX1_rule 16 = .ok (.ifCond .eq 6, 3) := by decide +kernel
theorem dX1_rule_19 : decode cX1_rule 19 = .ok (.bipush (-2), 2) := by decide +kernel
theorem dX1_rule_21 : decode cX1_rule 21 = .ok (.ireturn, 1) := by decide +kernel
theorem dX1_rule_22 : decode cX1_rule 22 = .ok (.aload_n 0, 1) := by decide +kernel
theorem dX1_rule_23 : decode cX1_rule 23 = .ok (.getfield 27, 3) := by decide +kernel
theorem dX1_rule_26 : decode cX1_rule 26 = .ok (.istore_n 3, 1) := by decide +kernel
theorem dX1_rule_27 : decode cX1_rule 27 = .ok (.iload_n 3, 1) := by decide +kernel
theorem dX1_rule_28 : decode cX1_rule 28 = .ok (.bipush 11, 2) := by decide +kernel
theorem dX1_rule_30 : decode cX1_rule 30 = .ok (.if_icmp .le 6, 3) := by decide +kernel
theorem dX1_rule_33 : decode cX1_rule 33 = .ok (.bipush (-3), 2) := by decide +kernel
theorem dX1_rule_35 : decode cX1_rule 35 = .ok (.ireturn, 1) := by decide +kernel
theorem dX1_rule_36 : decode cX1_rule 36 = .ok (.aload_n 0, 1) := by decide +kernel
theorem dX1_rule_37 : decode cX1_rule 37 = .ok (.getfield 7, 3) := by decide +kernel
theorem dX1_rule_40 : decode cX1_rule 40 = .ok (.iload_n 3, 1) := by decide +kernel
theorem dX1_rule_41 : decode cX1_rule 41 = .ok (.iload_n 1, 1) := by decide +kernel
theorem dX1_rule_42 : decode cX1_rule 42 = .ok (.iastore, 1) := by decide +kernel
theorem dX1_rule_43 : decode cX1_rule 43 = .ok (.aload_n 0, 1) := by decide +kernel
theorem dX1_rule_44 : decode cX1_rule 44 = .ok (.getfield 13, 3) := by decide +kernel
theorem dX1_rule_47 : decode cX1_rule 47 = .ok (.iload_n 3, 1) := by decide +kernel
theorem dX1_rule_48 : decode cX1_rule 48 = .ok (.iload_n 2, 1) := by decide +kernel
theorem dX1_rule_49 : decode cX1_rule 49 = .ok (.iastore, 1) := by decide +kernel
theorem dX1_rule_50 : decode cX1_rule 50 = .ok (.aload_n 0, 1) := by decide +kernel
theorem dX1_rule_51 : decode cX1_rule 51 = .ok (.iload_n 3, 1) := by decide +kernel
theorem dX1_rule_52 : decode cX1_rule 52 = .ok (.iconst 1, 1) := by decide +kernel
theorem dX1_rule_53 : decode cX1_rule 53 = .ok (.iadd, 1) := by decide +kernel
theorem dX1_rule_54 : decode cX1_rule 54 = .ok (.putfield 27, 3) := by decide +kernel
theorem dX1_rule_57 : decode cX1_rule 57 = .ok (.iload_n 3, 1) := by decide +kernel
theorem dX1_rule_58 : decode cX1_rule 58 = .ok (.ireturn, 1) := by decide +kernel
abbrev cX1_badRow : ByteArray := prog_3_method_2_code
def yX1_badRow : MethodName := ⟨RX1, "badRow", "(I)Z"⟩
theorem dX1_badRow_0 : decode cX1_badRow 0 = .ok (.iload_n 1, 1) := by decide +kernel
theorem dX1_badRow_1 : decode cX1_badRow 1 = .ok (.ifCond .lt 10, 3) := by decide +kernel
theorem dX1_badRow_4 : decode cX1_badRow 4 = .ok (.iload_n 1, 1) := by decide +kernel
theorem dX1_badRow_5 : decode cX1_badRow 5 = .ok (.sipush 728, 3) := by decide +kernel
theorem dX1_badRow_8 : decode cX1_badRow 8 = .ok (.if_icmp .le 5, 3) := by decide +kernel
theorem dX1_badRow_11 : decode cX1_badRow 11 = .ok (.iconst 1, 1) := by decide +kernel
theorem dX1_badRow_12 : decode cX1_badRow 12 = .ok (.ireturn, 1) := by decide +kernel
theorem dX1_badRow_13 : decode cX1_badRow 13 = .ok (.iload_n 1, 1) := by decide +kernel
theorem dX1_badRow_14 : decode cX1_badRow 14 = .ok (.ifCond .ne 5, 3) := by decide +kernel
theorem dX1_badRow_17 : decode cX1_badRow 17 = .ok (.iconst 0, 1) := by decide +kernel
theorem dX1_badRow_18 : decode cX1_badRow 18 = .ok (.ireturn, 1) := by decide +kernel
theorem dX1_badRow_19 : decode cX1_badRow 19 = .ok (.iload_n 1, 1) := by decide +kernel
theorem dX1_badRow_20 : decode cX1_badRow 20 = .ok (.bipush 9, 2) := by decide +kernel
theorem dX1_badRow_22 : decode cX1_badRow 22 = .ok (.irem, 1) := by decide +kernel
theorem dX1_badRow_23 : decode cX1_badRow 23 = .ok (.ifCond .eq 32, 3) := by decide +kernel
theorem dX1_badRow_26 : decode cX1_badRow 26 = .ok (.iload_n 1, 1) := by decide +kernel
theorem dX1_badRow_27 : decode cX1_badRow 27 = .ok (.bipush 8, 2) := by decide +kernel
theorem dX1_badRow_29 : decode cX1_badRow 29 = .ok (.if_icmp .le 13, 3) := by decide +kernel
theorem dX1_badRow_32 : decode cX1_badRow 32 = .ok (.iload_n 1, 1) := by decide +kernel
theorem dX1_badRow_33 : decode cX1_badRow 33 = .ok (.bipush 9, 2) := by decide +kernel
theorem dX1_badRow_35 : decode cX1_badRow 35 = .ok (.idiv, 1) := by decide +kernel
theorem dX1_badRow_36 : decode cX1_badRow 36 = .ok (.bipush 9, 2) := by decide +kernel
theorem dX1_badRow_38 : decode cX1_badRow 38 = .ok (.irem, 1) := by decide +kernel
theorem dX1_badRow_39 : decode cX1_badRow 39 = .ok (.ifCond .eq 16, 3) := by decide +kernel
theorem dX1_badRow_42 : decode cX1_badRow 42 = .ok (.iload_n 1, 1) := by decide +kernel
theorem dX1_badRow_43 : decode cX1_badRow 43 = .ok (.bipush 80, 2) := by decide +kernel
theorem dX1_badRow_45 : decode cX1_badRow 45 = .ok (.if_icmp .le 14, 3) := by decide +kernel
theorem dX1_badRow_48 : decode cX1_badRow 48 = .ok (.iload_n 1, 1) := by decide +kernel
theorem dX1_badRow_49 : decode cX1_badRow 49 = .ok (.bipush 81, 2) := by decide +kernel
theorem dX1_badRow_51 : decode cX1_badRow 51 = .ok (.idiv, 1) := by decide +kernel
theorem dX1_badRow_52 : decode cX1_badRow 52 = .ok (.ifCond .ne 7, 3) := by decide +kernel
theorem dX1_badRow_55 : decode cX1_badRow 55 = .ok (.iconst 1, 1) := by decide +kernel
theorem dX1_badRow_56 : decode cX1_badRow 56 = .ok (.goto 4, 3) := by decide +kernel
theorem dX1_badRow_59 : decode cX1_badRow 59 = .ok (.iconst 0, 1) := by decide +kernel
theorem dX1_badRow_60 : decode cX1_badRow 60 = .ok (.ireturn, 1) := by decide +kernel
abbrev cX1_drop : ByteArray := prog_3_method_5_code
def yX1_drop : MethodName := ⟨RX1, "drop", "(I)I"⟩
theorem dX1_drop_0 : decode cX1_drop 0 = .ok (.aload_n 0, 1) := by decide +kernel
theorem dX1_drop_1 : decode cX1_drop 1 = .ok (.iload_n 1, 1) := by decide +kernel
theorem dX1_drop_2 : decode cX1_drop 2 = .ok (.invokevirtual 31, 3) := by decide +kernel
theorem dX1_drop_5 : decode cX1_drop 5 = .ok (.ifCond .eq 5, 3) := by decide +kernel
theorem dX1_drop_8 : decode cX1_drop 8 = .ok (.iconst (-1), 1) := by decide +kernel
theorem dX1_drop_9 : decode cX1_drop 9 = .ok (.ireturn, 1) := by decide +kernel
theorem dX1_drop_10 : decode cX1_drop 10 = .ok (.iload_n 1, 1) := by decide +kernel
theorem dX1_drop_11 : decode cX1_drop 11 = .ok (.istore_n 2, 1) := by decide +kernel
theorem dX1_drop_12 : decode cX1_drop 12 = .ok (.iload_n 2, 1) := by decide +kernel
theorem dX1_drop_13 : decode cX1_drop 13 = .ok (.aload_n 0, 1) := by decide +kernel
theorem dX1_drop_14 : decode cX1_drop 14 = .ok (.getfield 27, 3) := by decide +kernel
theorem dX1_drop_17 : decode cX1_drop 17 = .ok (.iconst 1, 1) := by decide +kernel
theorem dX1_drop_18 : decode cX1_drop 18 = .ok (.isub, 1) := by decide +kernel
theorem dX1_drop_19 : decode cX1_drop 19 = .ok (.if_icmp .ge 43, 3) := by decide +kernel
theorem dX1_drop_22 : decode cX1_drop 22 = .ok (.iload_n 2, 1) := by decide +kernel
theorem dX1_drop_23 : decode cX1_drop 23 = .ok (.bipush 11, 2) := by decide +kernel
theorem dX1_drop_25 : decode cX1_drop 25 = .ok (.if_icmp .ge 37, 3) := by decide +kernel
theorem dX1_drop_28 : decode cX1_drop 28 = .ok (.aload_n 0, 1) := by decide +kernel
theorem dX1_drop_29 : decode cX1_drop 29 = .ok (.getfield 7, 3) := by decide +kernel
theorem dX1_drop_32 : decode cX1_drop 32 = .ok (.iload_n 2, 1) := by decide +kernel
theorem dX1_drop_33 : decode cX1_drop 33 = .ok (.aload_n 0, 1) := by decide +kernel
theorem dX1_drop_34 : decode cX1_drop 34 = .ok (.getfield 7, 3) := by decide +kernel
theorem dX1_drop_37 : decode cX1_drop 37 = .ok (.iload_n 2, 1) := by decide +kernel
theorem dX1_drop_38 : decode cX1_drop 38 = .ok (.iconst 1, 1) := by decide +kernel
theorem dX1_drop_39 : decode cX1_drop 39 = .ok (.iadd, 1) := by decide +kernel
theorem dX1_drop_40 : decode cX1_drop 40 = .ok (.iaload, 1) := by decide +kernel
theorem dX1_drop_41 : decode cX1_drop 41 = .ok (.iastore, 1) := by decide +kernel
theorem dX1_drop_42 : decode cX1_drop 42 = .ok (.aload_n 0, 1) := by decide +kernel
theorem dX1_drop_43 : decode cX1_drop 43 = .ok (.getfield 13, 3) := by decide +kernel
theorem dX1_drop_46 : decode cX1_drop 46 = .ok (.iload_n 2, 1) := by decide +kernel
theorem dX1_drop_47 : decode cX1_drop 47 = .ok (.aload_n 0, 1) := by decide +kernel
theorem dX1_drop_48 : decode cX1_drop 48 = .ok (.getfield 13, 3) := by decide +kernel
theorem dX1_drop_51 : decode cX1_drop 51 = .ok (.iload_n 2, 1) := by decide +kernel
theorem dX1_drop_52 : decode cX1_drop 52 = .ok (.iconst 1, 1) := by decide +kernel
theorem dX1_drop_53 : decode cX1_drop 53 = .ok (.iadd, 1) := by decide +kernel
theorem dX1_drop_54 : decode cX1_drop 54 = .ok (.iaload, 1) := by decide +kernel
theorem dX1_drop_55 : decode cX1_drop 55 = .ok (.iastore, 1) := by decide +kernel
theorem dX1_drop_56 : decode cX1_drop 56 = .ok (.iinc 2 1, 3) := by decide +kernel
theorem dX1_drop_59 : decode cX1_drop 59 = .ok (.goto (-47), 3) := by decide +kernel
theorem dX1_drop_62 : decode cX1_drop 62 = .ok (.aload_n 0, 1) := by decide +kernel
theorem dX1_drop_63 : decode cX1_drop 63 = .ok (.dup, 1) := by decide +kernel
theorem dX1_drop_64 : decode cX1_drop 64 = .ok (.getfield 27, 3) := by decide +kernel
theorem dX1_drop_67 : decode cX1_drop 67 = .ok (.iconst 1, 1) := by decide +kernel
theorem dX1_drop_68 : decode cX1_drop 68 = .ok (.isub, 1) := by decide +kernel
theorem dX1_drop_69 : decode cX1_drop 69 = .ok (.putfield 27, 3) := by decide +kernel
theorem dX1_drop_72 : decode cX1_drop 72 = .ok (.aload_n 0, 1) := by decide +kernel
theorem dX1_drop_73 : decode cX1_drop 73 = .ok (.getfield 27, 3) := by decide +kernel
theorem dX1_drop_76 : decode cX1_drop 76 = .ok (.ireturn, 1) := by decide +kernel
abbrev cX1_badRule : ByteArray := prog_3_method_4_code
def yX1_badRule : MethodName := ⟨RX1, "badRule", "(I)Z"⟩
theorem dX1_badRule_0 : decode cX1_badRule 0 = .ok (.iload_n 1, 1) := by decide +kernel
theorem dX1_badRule_1 : decode cX1_badRule 1 = .ok (.ifCond .lt 17, 3) := by decide +kernel
theorem dX1_badRule_4 : decode cX1_badRule 4 = .ok (.iload_n 1, 1) := by decide +kernel
theorem dX1_badRule_5 : decode cX1_badRule 5 = .ok (.aload_n 0, 1) := by decide +kernel
theorem dX1_badRule_6 : decode cX1_badRule 6 = .ok (.getfield 27, 3) := by decide +kernel
theorem dX1_badRule_9 : decode cX1_badRule 9 = .ok (.if_icmp .ge 9, 3) := by decide +kernel
theorem dX1_badRule_12 : decode cX1_badRule 12 = .ok (.iload_n 1, 1) := by decide +kernel
theorem dX1_badRule_13 : decode cX1_badRule 13 = .ok (.bipush 11, 2) := by decide +kernel
theorem dX1_badRule_15 : decode cX1_badRule 15 = .ok (.if_icmp .le 7, 3) := by decide +kernel
theorem dX1_badRule_18 : decode cX1_badRule 18 = .ok (.iconst 1, 1) := by decide +kernel
theorem dX1_badRule_19 : decode cX1_badRule 19 = .ok (.goto 4, 3) := by decide +kernel
theorem dX1_badRule_22 : decode cX1_badRule 22 = .ok (.iconst 0, 1) := by decide +kernel
theorem dX1_badRule_23 : decode cX1_badRule 23 = .ok (.ireturn, 1) := by decide +kernel
abbrev cX1_clear : ByteArray := prog_3_method_6_code
def yX1_clear : MethodName := ⟨RX1, "clear", "()I"⟩
theorem dX1_clear_0 : decode cX1_clear 0 = .ok (.aload_n 0, 1) := by decide +kernel
theorem dX1_clear_1 : decode cX1_clear 1 = .ok (.getfield 27, 3) := by decide +kernel
theorem dX1_clear_4 : decode cX1_clear 4 = .ok (.istore_n 1, 1) := by decide +kernel
theorem dX1_clear_5 : decode cX1_clear 5 = .ok (.aload_n 0, 1) := by decide +kernel
theorem dX1_clear_6 : decode cX1_clear 6 = .ok (.iconst 0, 1) := by decide +kernel
theorem dX1_clear_7 : decode cX1_clear 7 = .ok (.putfield 27, 3) := by decide +kernel
theorem dX1_clear_10 : decode cX1_clear 10 = .ok (.iload_n 1, 1) := by decide +kernel
theorem dX1_clear_11 : decode cX1_clear 11 = .ok (.ireturn, 1) := by decide +kernel
abbrev cX1_rules : ByteArray := prog_3_method_7_code
def yX1_rules : MethodName := ⟨RX1, "rules", "()I"⟩
theorem dX1_rules_0 : decode cX1_rules 0 = .ok (.aload_n 0, 1) := by decide +kernel
theorem dX1_rules_1 : decode cX1_rules 1 = .ok (.getfield 27, 3) := by decide +kernel
theorem dX1_rules_4 : decode cX1_rules 4 = .ok (.ireturn, 1) := by decide +kernel
abbrev cX1_push : ByteArray := prog_3_method_8_code
def yX1_push : MethodName := ⟨RX1, "push", "(I)I"⟩
theorem dX1_push_0 : decode cX1_push 0 = .ok (.iload_n 1, 1) := by decide +kernel
theorem dX1_push_1 : decode cX1_push 1 = .ok (.iconst 5, 1) := by decide +kernel
theorem dX1_push_2 : decode cX1_push 2 = .ok (.if_icmp .lt 9, 3) := by decide +kernel
theorem dX1_push_5 : decode cX1_push 5 = .ok (.iload_n 1, 1) := by decide +kernel
theorem dX1_push_6 : decode cX1_push 6 = .ok (.bipush 7, 2) := by decide +kernel
theorem dX1_push_8 : decode cX1_push 8 = .ok (.if_icmp .le 5, 3) := by decide +kernel
theorem dX1_push_11 : decode cX1_push 11 = .ok (.iconst (-1), 1) := by decide +kernel
theorem dX1_push_12 : decode cX1_push 12 = .ok (.ireturn, 1) := by decide +kernel
theorem dX1_push_13 : decode cX1_push 13 = .ok (.aload_n 0, 1) := by decide +kernel
theorem dX1_push_14 : decode cX1_push 14 = .ok (.getfield 34, 3) := by decide +kernel
theorem dX1_push_17 : decode cX1_push 17 = .ok (.bipush 7, 2) := by decide +kernel
theorem dX1_push_19 : decode cX1_push 19 = .ok (.if_icmp .le 6, 3) := by decide +kernel
theorem dX1_push_22 : decode cX1_push 22 = .ok (.bipush (-2), 2) := by decide +kernel
theorem dX1_push_24 : decode cX1_push 24 = .ok (.ireturn, 1) := by decide +kernel
theorem dX1_push_25 : decode cX1_push 25 = .ok (.aload_n 0, 1) := by decide +kernel
theorem dX1_push_26 : decode cX1_push 26 = .ok (.getfield 16, 3) := by decide +kernel
theorem dX1_push_29 : decode cX1_push 29 = .ok (.aload_n 0, 1) := by decide +kernel
theorem dX1_push_30 : decode cX1_push 30 = .ok (.getfield 34, 3) := by decide +kernel
theorem dX1_push_33 : decode cX1_push 33 = .ok (.iload_n 1, 1) := by decide +kernel
theorem dX1_push_34 : decode cX1_push 34 = .ok (.iastore, 1) := by decide +kernel
theorem dX1_push_35 : decode cX1_push 35 = .ok (.aload_n 0, 1) := by decide +kernel
theorem dX1_push_36 : decode cX1_push 36 = .ok (.dup, 1) := by decide +kernel
theorem dX1_push_37 : decode cX1_push 37 = .ok (.getfield 34, 3) := by decide +kernel
theorem dX1_push_40 : decode cX1_push 40 = .ok (.iconst 1, 1) := by decide +kernel
theorem dX1_push_41 : decode cX1_push 41 = .ok (.iadd, 1) := by decide +kernel
theorem dX1_push_42 : decode cX1_push 42 = .ok (.putfield 34, 3) := by decide +kernel
theorem dX1_push_45 : decode cX1_push 45 = .ok (.aload_n 0, 1) := by decide +kernel
theorem dX1_push_46 : decode cX1_push 46 = .ok (.getfield 34, 3) := by decide +kernel
theorem dX1_push_49 : decode cX1_push 49 = .ok (.ireturn, 1) := by decide +kernel
abbrev cX1_pop : ByteArray := prog_3_method_9_code
def yX1_pop : MethodName := ⟨RX1, "pop", "()I"⟩
theorem dX1_pop_0 : decode cX1_pop 0 = .ok (.aload_n 0, 1) := by decide +kernel
theorem dX1_pop_1 : decode cX1_pop 1 = .ok (.getfield 34, 3) := by decide +kernel
theorem dX1_pop_4 : decode cX1_pop 4 = .ok (.ifCond .ne 5, 3) := by decide +kernel
theorem dX1_pop_7 : decode cX1_pop 7 = .ok (.iconst (-1), 1) := by decide +kernel
theorem dX1_pop_8 : decode cX1_pop 8 = .ok (.ireturn, 1) := by decide +kernel
theorem dX1_pop_9 : decode cX1_pop 9 = .ok (.aload_n 0, 1) := by decide +kernel
theorem dX1_pop_10 : decode cX1_pop 10 = .ok (.dup, 1) := by decide +kernel
theorem dX1_pop_11 : decode cX1_pop 11 = .ok (.getfield 34, 3) := by decide +kernel
theorem dX1_pop_14 : decode cX1_pop 14 = .ok (.iconst 1, 1) := by decide +kernel
theorem dX1_pop_15 : decode cX1_pop 15 = .ok (.isub, 1) := by decide +kernel
theorem dX1_pop_16 : decode cX1_pop 16 = .ok (.putfield 34, 3) := by decide +kernel
theorem dX1_pop_19 : decode cX1_pop 19 = .ok (.aload_n 0, 1) := by decide +kernel
theorem dX1_pop_20 : decode cX1_pop 20 = .ok (.getfield 16, 3) := by decide +kernel
theorem dX1_pop_23 : decode cX1_pop 23 = .ok (.aload_n 0, 1) := by decide +kernel
theorem dX1_pop_24 : decode cX1_pop 24 = .ok (.getfield 34, 3) := by decide +kernel
theorem dX1_pop_27 : decode cX1_pop 27 = .ok (.iaload, 1) := by decide +kernel
theorem dX1_pop_28 : decode cX1_pop 28 = .ok (.ireturn, 1) := by decide +kernel
abbrev cX1_write : ByteArray := prog_3_method_10_code
def yX1_write : MethodName := ⟨RX1, "write", "(II)I"⟩
theorem dX1_write_0 : decode cX1_write 0 = .ok (.iload_n 1, 1) := by decide +kernel
theorem dX1_write_1 : decode cX1_write 1 = .ok (.ifCond .lt 9, 3) := by decide +kernel
theorem dX1_write_4 : decode cX1_write 4 = .ok (.iload_n 1, 1) := by decide +kernel
theorem dX1_write_5 : decode cX1_write 5 = .ok (.bipush 8, 2) := by decide +kernel
theorem dX1_write_7 : decode cX1_write 7 = .ok (.if_icmp .le 5, 3) := by decide +kernel
theorem dX1_write_10 : decode cX1_write 10 = .ok (.iconst (-1), 1) := by decide +kernel
theorem dX1_write_11 : decode cX1_write 11 = .ok (.ireturn, 1) := by decide +kernel
theorem dX1_write_12 : decode cX1_write 12 = .ok (.iconst 1, 1) := by decide +kernel
theorem dX1_write_13 : decode cX1_write 13 = .ok (.istore_n 3, 1) := by decide +kernel
theorem dX1_write_14 : decode cX1_write 14 = .ok (.iconst 0, 1) := by decide +kernel
theorem dX1_write_15 : decode cX1_write 15 = .ok (.istore 4, 2) := by decide +kernel
theorem dX1_write_17 : decode cX1_write 17 = .ok (.iload 4, 2) := by decide +kernel
theorem dX1_write_19 : decode cX1_write 19 = .ok (.iload_n 1, 1) := by decide +kernel
theorem dX1_write_20 : decode cX1_write 20 = .ok (.if_icmp .ge 13, 3) := by decide +kernel
theorem dX1_write_23 : decode cX1_write 23 = .ok (.iconst 3, 1) := by decide +kernel
theorem dX1_write_24 : decode cX1_write 24 = .ok (.iload_n 3, 1) := by decide +kernel
theorem dX1_write_25 : decode cX1_write 25 = .ok (.imul, 1) := by decide +kernel
theorem dX1_write_26 : decode cX1_write 26 = .ok (.istore_n 3, 1) := by decide +kernel
theorem dX1_write_27 : decode cX1_write 27 = .ok (.iinc 4 1, 3) := by decide +kernel
theorem dX1_write_30 : decode cX1_write 30 = .ok (.goto (-13), 3) := by decide +kernel
theorem dX1_write_33 : decode cX1_write 33 = .ok (.iload_n 2, 1) := by decide +kernel
theorem dX1_write_34 : decode cX1_write 34 = .ok (.ifCond .lt 8, 3) := by decide +kernel
theorem dX1_write_37 : decode cX1_write 37 = .ok (.iload_n 2, 1) := by decide +kernel
theorem dX1_write_38 : decode cX1_write 38 = .ok (.iload_n 3, 1) := by decide +kernel
theorem dX1_write_39 : decode cX1_write 39 = .ok (.if_icmp .lt 6, 3) := by decide +kernel
theorem dX1_write_42 : decode cX1_write 42 = .ok (.bipush (-2), 2) := by decide +kernel
theorem dX1_write_44 : decode cX1_write 44 = .ok (.ireturn, 1) := by decide +kernel
theorem dX1_write_45 : decode cX1_write 45 = .ok (.iload_n 2, 1) := by decide +kernel
theorem dX1_write_46 : decode cX1_write 46 = .ok (.istore 4, 2) := by decide +kernel
theorem dX1_write_48 : decode cX1_write 48 = .ok (.iload_n 1, 1) := by decide +kernel
theorem dX1_write_49 : decode cX1_write 49 = .ok (.iconst 1, 1) := by decide +kernel
theorem dX1_write_50 : decode cX1_write 50 = .ok (.isub, 1) := by decide +kernel
theorem dX1_write_51 : decode cX1_write 51 = .ok (.istore 5, 2) := by decide +kernel
theorem dX1_write_53 : decode cX1_write 53 = .ok (.iload 5, 2) := by decide +kernel
theorem dX1_write_55 : decode cX1_write 55 = .ok (.ifCond .lt 28, 3) := by decide +kernel
theorem dX1_write_58 : decode cX1_write 58 = .ok (.aload_n 0, 1) := by decide +kernel
theorem dX1_write_59 : decode cX1_write 59 = .ok (.getfield 16, 3) := by decide +kernel
theorem dX1_write_62 : decode cX1_write 62 = .ok (.iload 5, 2) := by decide +kernel
theorem dX1_write_64 : decode cX1_write 64 = .ok (.iconst 5, 1) := by decide +kernel
theorem dX1_write_65 : decode cX1_write 65 = .ok (.iload 4, 2) := by decide +kernel
theorem dX1_write_67 : decode cX1_write 67 = .ok (.iconst 3, 1) := by decide +kernel
theorem dX1_write_68 : decode cX1_write 68 = .ok (.irem, 1) := by decide +kernel
theorem dX1_write_69 : decode cX1_write 69 = .ok (.iadd, 1) := by decide +kernel
theorem dX1_write_70 : decode cX1_write 70 = .ok (.iastore, 1) := by decide +kernel
theorem dX1_write_71 : decode cX1_write 71 = .ok (.iload 4, 2) := by decide +kernel
theorem dX1_write_73 : decode cX1_write 73 = .ok (.iconst 3, 1) := by decide +kernel
theorem dX1_write_74 : decode cX1_write 74 = .ok (.idiv, 1) := by decide +kernel
theorem dX1_write_75 : decode cX1_write 75 = .ok (.istore 4, 2) := by decide +kernel
theorem dX1_write_77 : decode cX1_write 77 = .ok (.iinc 5 (-1), 3) := by decide +kernel
theorem dX1_write_80 : decode cX1_write 80 = .ok (.goto (-27), 3) := by decide +kernel
theorem dX1_write_83 : decode cX1_write 83 = .ok (.aload_n 0, 1) := by decide +kernel
theorem dX1_write_84 : decode cX1_write 84 = .ok (.iload_n 1, 1) := by decide +kernel
theorem dX1_write_85 : decode cX1_write 85 = .ok (.putfield 34, 3) := by decide +kernel
theorem dX1_write_88 : decode cX1_write 88 = .ok (.iload_n 1, 1) := by decide +kernel
theorem dX1_write_89 : decode cX1_write 89 = .ok (.ireturn, 1) := by decide +kernel
abbrev cX1_length : ByteArray := prog_3_method_11_code
def yX1_length : MethodName := ⟨RX1, "length", "()I"⟩
theorem dX1_length_0 : decode cX1_length 0 = .ok (.aload_n 0, 1) := by decide +kernel
theorem dX1_length_1 : decode cX1_length 1 = .ok (.getfield 34, 3) := by decide +kernel
theorem dX1_length_4 : decode cX1_length 4 = .ok (.ireturn, 1) := by decide +kernel
abbrev cX1_accepts : ByteArray := prog_3_method_18_code
def yX1_accepts : MethodName := ⟨RX1, "accepts", "()I"⟩
theorem dX1_accepts_0 : decode cX1_accepts 0 = .ok (.aload_n 0, 1) := by decide +kernel
theorem dX1_accepts_1 : decode cX1_accepts 1 = .ok (.invokevirtual 55, 3) := by decide +kernel
theorem dX1_accepts_4 : decode cX1_accepts 4 = .ok (.aload_n 0, 1) := by decide +kernel
theorem dX1_accepts_5 : decode cX1_accepts 5 = .ok (.iconst 0, 1) := by decide +kernel
theorem dX1_accepts_6 : decode cX1_accepts 6 = .ok (.iconst 0, 1) := by decide +kernel
theorem dX1_accepts_7 : decode cX1_accepts 7 = .ok (.aload_n 0, 1) := by decide +kernel
theorem dX1_accepts_8 : decode cX1_accepts 8 = .ok (.getfield 34, 3) := by decide +kernel
theorem dX1_accepts_11 : decode cX1_accepts 11 = .ok (.invokevirtual 37, 3) := by decide +kernel
theorem dX1_accepts_14 : decode cX1_accepts 14 = .ok (.ifCond .eq 7, 3) := by decide +kernel
theorem dX1_accepts_17 : decode cX1_accepts 17 = .ok (.iconst 1, 1) := by decide +kernel
theorem dX1_accepts_18 : decode cX1_accepts 18 = .ok (.goto 4, 3) := by decide +kernel
theorem dX1_accepts_21 : decode cX1_accepts 21 = .ok (.iconst 0, 1) := by decide +kernel
theorem dX1_accepts_22 : decode cX1_accepts 22 = .ok (.ireturn, 1) := by decide +kernel
abbrev cX1_work : ByteArray := prog_3_method_17_code
def yX1_work : MethodName := ⟨RX1, "work", "()V"⟩
theorem dX1_work_0 : decode cX1_work 0 = .ok (.iconst 0, 1) := by decide +kernel
theorem dX1_work_1 : decode cX1_work 1 = .ok (.istore_n 1, 1) := by decide +kernel
theorem dX1_work_2 : decode cX1_work 2 = .ok (.iload_n 1, 1) := by decide +kernel
theorem dX1_work_3 : decode cX1_work 3 = .ok (.sipush 405, 3) := by decide +kernel
theorem dX1_work_6 : decode cX1_work 6 = .ok (.if_icmp .ge 16, 3) := by decide +kernel
theorem dX1_work_9 : decode cX1_work 9 = .ok (.aload_n 0, 1) := by decide +kernel
theorem dX1_work_10 : decode cX1_work 10 = .ok (.getfield 19, 3) := by decide +kernel
theorem dX1_work_13 : decode cX1_work 13 = .ok (.iload_n 1, 1) := by decide +kernel
theorem dX1_work_14 : decode cX1_work 14 = .ok (.iconst 0, 1) := by decide +kernel
theorem dX1_work_15 : decode cX1_work 15 = .ok (.bastore, 1) := by decide +kernel
theorem dX1_work_16 : decode cX1_work 16 = .ok (.iinc 1 1, 3) := by decide +kernel
theorem dX1_work_19 : decode cX1_work 19 = .ok (.goto (-17), 3) := by decide +kernel
theorem dX1_work_22 : decode cX1_work 22 = .ok (.iconst 1, 1) := by decide +kernel
theorem dX1_work_23 : decode cX1_work 23 = .ok (.istore_n 1, 1) := by decide +kernel
theorem dX1_work_24 : decode cX1_work 24 = .ok (.iconst 0, 1) := by decide +kernel
theorem dX1_work_25 : decode cX1_work 25 = .ok (.istore_n 2, 1) := by decide +kernel
theorem dX1_work_26 : decode cX1_work 26 = .ok (.iload_n 2, 1) := by decide +kernel
theorem dX1_work_27 : decode cX1_work 27 = .ok (.sipush 300, 3) := by decide +kernel
theorem dX1_work_30 : decode cX1_work 30 = .ok (.if_icmp .ge 18, 3) := by decide +kernel
theorem dX1_work_33 : decode cX1_work 33 = .ok (.iload_n 1, 1) := by decide +kernel
theorem dX1_work_34 : decode cX1_work 34 = .ok (.ifCond .eq 14, 3) := by decide +kernel
theorem dX1_work_37 : decode cX1_work 37 = .ok (.aload_n 0, 1) := by decide +kernel
theorem dX1_work_38 : decode cX1_work 38 = .ok (.invokevirtual 51, 3) := by decide +kernel
theorem dX1_work_41 : decode cX1_work 41 = .ok (.istore_n 1, 1) := by decide +kernel
theorem dX1_work_42 : decode cX1_work 42 = .ok (.iinc 2 1, 3) := by decide +kernel
theorem dX1_work_45 : decode cX1_work 45 = .ok (.goto (-19), 3) := by decide +kernel
theorem dX1_work_48 : decode cX1_work 48 = .ok (.return_, 1) := by decide +kernel
abbrev cX1_fillAll : ByteArray := prog_3_method_16_code
def yX1_fillAll : MethodName := ⟨RX1, "fillAll", "()Z"⟩
theorem dX1_fillAll_0 : decode cX1_fillAll 0 = .ok (.iconst 0, 1) := by decide +kernel
theorem dX1_fillAll_1 : decode cX1_fillAll 1 = .ok (.istore_n 1, 1) := by decide +kernel
theorem dX1_fillAll_2 : decode cX1_fillAll 2 = .ok (.iconst 0, 1) := by decide +kernel
theorem dX1_fillAll_3 : decode cX1_fillAll 3 = .ok (.istore_n 2, 1) := by decide +kernel
theorem dX1_fillAll_4 : decode cX1_fillAll 4 = .ok (.iload_n 2, 1) := by decide +kernel
theorem dX1_fillAll_5 : decode cX1_fillAll 5 = .ok (.aload_n 0, 1) := by decide +kernel
theorem dX1_fillAll_6 : decode cX1_fillAll 6 = .ok (.getfield 27, 3) := by decide +kernel
theorem dX1_fillAll_9 : decode cX1_fillAll 9 = .ok (.if_icmp .ge 25, 3) := by decide +kernel
theorem dX1_fillAll_12 : decode cX1_fillAll 12 = .ok (.iload_n 2, 1) := by decide +kernel
theorem dX1_fillAll_13 : decode cX1_fillAll 13 = .ok (.bipush 12, 2) := by decide +kernel
theorem dX1_fillAll_15 : decode cX1_fillAll 15 = .ok (.if_icmp .ge 19, 3) := by decide +kernel
theorem dX1_fillAll_18 : decode cX1_fillAll 18 = .ok (.aload_n 0, 1) := by decide +kernel
theorem dX1_fillAll_19 : decode cX1_fillAll 19 = .ok (.iload_n 2, 1) := by decide +kernel
theorem dX1_fillAll_20 : decode cX1_fillAll 20 = .ok (.invokevirtual 48, 3) := by decide +kernel
theorem dX1_fillAll_23 : decode cX1_fillAll 23 = .ok (.ifCond .eq 5, 3) := by decide +kernel
theorem dX1_fillAll_26 : decode cX1_fillAll 26 = .ok (.iconst 1, 1) := by decide +kernel
theorem dX1_fillAll_27 : decode cX1_fillAll 27 = .ok (.istore_n 1, 1) := by decide +kernel
theorem dX1_fillAll_28 : decode cX1_fillAll 28 = .ok (.iinc 2 1, 3) := by decide +kernel
theorem dX1_fillAll_31 : decode cX1_fillAll 31 = .ok (.goto (-27), 3) := by decide +kernel
theorem dX1_fillAll_34 : decode cX1_fillAll 34 = .ok (.iload_n 1, 1) := by decide +kernel
theorem dX1_fillAll_35 : decode cX1_fillAll 35 = .ok (.ireturn, 1) := by decide +kernel
abbrev cX1_fill : ByteArray := prog_3_method_15_code
def yX1_fill : MethodName := ⟨RX1, "fill", "(I)Z"⟩
theorem dX1_fill_0 : decode cX1_fill 0 = .ok (.iconst 0, 1) := by decide +kernel
theorem dX1_fill_1 : decode cX1_fill 1 = .ok (.istore_n 2, 1) := by decide +kernel
theorem dX1_fill_2 : decode cX1_fill 2 = .ok (.iconst 0, 1) := by decide +kernel
theorem dX1_fill_3 : decode cX1_fill 3 = .ok (.istore_n 3, 1) := by decide +kernel
theorem dX1_fill_4 : decode cX1_fill 4 = .ok (.iload_n 3, 1) := by decide +kernel
theorem dX1_fill_5 : decode cX1_fill 5 = .ok (.aload_n 0, 1) := by decide +kernel
theorem dX1_fill_6 : decode cX1_fill 6 = .ok (.getfield 34, 3) := by decide +kernel
theorem dX1_fill_9 : decode cX1_fill 9 = .ok (.if_icmp .gt 95, 3) := by decide +kernel
theorem dX1_fill_12 : decode cX1_fill 12 = .ok (.iload_n 3, 1) := by decide +kernel
theorem dX1_fill_13 : decode cX1_fill 13 = .ok (.bipush 9, 2) := by decide +kernel
theorem dX1_fill_15 : decode cX1_fill 15 = .ok (.if_icmp .ge 89, 3) := by decide +kernel
theorem dX1_fill_18 : decode cX1_fill 18 = .ok (.iload_n 3, 1) := by decide +kernel
theorem dX1_fill_19 : decode cX1_fill 19 = .ok (.istore 4, 2) := by decide +kernel
theorem dX1_fill_21 : decode cX1_fill 21 = .ok (.iload 4, 2) := by decide +kernel
theorem dX1_fill_23 : decode cX1_fill 23 = .ok (.aload_n 0, 1) := by decide +kernel
theorem dX1_fill_24 : decode cX1_fill 24 = .ok (.getfield 34, 3) := by decide +kernel
theorem dX1_fill_27 : decode cX1_fill 27 = .ok (.if_icmp .gt 71, 3) := by decide +kernel
theorem dX1_fill_30 : decode cX1_fill 30 = .ok (.iload 4, 2) := by decide +kernel
theorem dX1_fill_32 : decode cX1_fill 32 = .ok (.bipush 9, 2) := by decide +kernel
theorem dX1_fill_34 : decode cX1_fill 34 = .ok (.if_icmp .ge 64, 3) := by decide +kernel
theorem dX1_fill_37 : decode cX1_fill 37 = .ok (.bipush 81, 2) := by decide +kernel
theorem dX1_fill_39 : decode cX1_fill 39 = .ok (.aload_n 0, 1) := by decide +kernel
theorem dX1_fill_40 : decode cX1_fill 40 = .ok (.getfield 7, 3) := by decide +kernel
theorem dX1_fill_43 : decode cX1_fill 43 = .ok (.iload_n 1, 1) := by decide +kernel
theorem dX1_fill_44 : decode cX1_fill 44 = .ok (.iaload, 1) := by decide +kernel
theorem dX1_fill_45 : decode cX1_fill 45 = .ok (.imul, 1) := by decide +kernel
theorem dX1_fill_46 : decode cX1_fill 46 = .ok (.bipush 9, 2) := by decide +kernel
theorem dX1_fill_48 : decode cX1_fill 48 = .ok (.iload_n 3, 1) := by decide +kernel
theorem dX1_fill_49 : decode cX1_fill 49 = .ok (.imul, 1) := by decide +kernel
theorem dX1_fill_50 : decode cX1_fill 50 = .ok (.iadd, 1) := by decide +kernel
theorem dX1_fill_51 : decode cX1_fill 51 = .ok (.iload 4, 2) := by decide +kernel
theorem dX1_fill_53 : decode cX1_fill 53 = .ok (.iadd, 1) := by decide +kernel
theorem dX1_fill_54 : decode cX1_fill 54 = .ok (.istore 5, 2) := by decide +kernel
theorem dX1_fill_56 : decode cX1_fill 56 = .ok (.aload_n 0, 1) := by decide +kernel
theorem dX1_fill_57 : decode cX1_fill 57 = .ok (.getfield 19, 3) := by decide +kernel
theorem dX1_fill_60 : decode cX1_fill 60 = .ok (.iload 5, 2) := by decide +kernel
theorem dX1_fill_62 : decode cX1_fill 62 = .ok (.baload, 1) := by decide +kernel
theorem dX1_fill_63 : decode cX1_fill 63 = .ok (.ifCond .ne 29, 3) := by decide +kernel
theorem dX1_fill_66 : decode cX1_fill 66 = .ok (.aload_n 0, 1) := by decide +kernel
theorem dX1_fill_67 : decode cX1_fill 67 = .ok (.aload_n 0, 1) := by decide +kernel
theorem dX1_fill_68 : decode cX1_fill 68 = .ok (.getfield 13, 3) := by decide +kernel
theorem dX1_fill_71 : decode cX1_fill 71 = .ok (.iload_n 1, 1) := by decide +kernel
theorem dX1_fill_72 : decode cX1_fill 72 = .ok (.iaload, 1) := by decide +kernel
theorem dX1_fill_73 : decode cX1_fill 73 = .ok (.iload_n 3, 1) := by decide +kernel
theorem dX1_fill_74 : decode cX1_fill 74 = .ok (.iload 4, 2) := by decide +kernel
theorem dX1_fill_76 : decode cX1_fill 76 = .ok (.invokevirtual 45, 3) := by decide +kernel
theorem dX1_fill_79 : decode cX1_fill 79 = .ok (.ifCond .eq 13, 3) := by decide +kernel
theorem dX1_fill_82 : decode cX1_fill 82 = .ok (.aload_n 0, 1) := by decide +kernel
theorem dX1_fill_83 : decode cX1_fill 83 = .ok (.getfield 19, 3) := by decide +kernel
theorem dX1_fill_86 : decode cX1_fill 86 = .ok (.iload 5, 2) := by decide +kernel
theorem dX1_fill_88 : decode cX1_fill 88 = .ok (.iconst 1, 1) := by decide +kernel
theorem dX1_fill_89 : decode cX1_fill 89 = .ok (.bastore, 1) := by decide +kernel
theorem dX1_fill_90 : decode cX1_fill 90 = .ok (.iconst 1, 1) := by decide +kernel
theorem dX1_fill_91 : decode cX1_fill 91 = .ok (.istore_n 2, 1) := by decide +kernel
theorem dX1_fill_92 : decode cX1_fill 92 = .ok (.iinc 4 1, 3) := by decide +kernel
theorem dX1_fill_95 : decode cX1_fill 95 = .ok (.goto (-74), 3) := by decide +kernel
theorem dX1_fill_98 : decode cX1_fill 98 = .ok (.iinc 3 1, 3) := by decide +kernel
theorem dX1_fill_101 : decode cX1_fill 101 = .ok (.goto (-97), 3) := by decide +kernel
theorem dX1_fill_104 : decode cX1_fill 104 = .ok (.iload_n 2, 1) := by decide +kernel
theorem dX1_fill_105 : decode cX1_fill 105 = .ok (.ireturn, 1) := by decide +kernel
abbrev cX1_rowFits : ByteArray := prog_3_method_14_code
def yX1_rowFits : MethodName := ⟨RX1, "rowFits", "(III)Z"⟩
theorem dX1_rowFits_0 : decode cX1_rowFits 0 = .ok (.iload_n 1, 1) := by decide +kernel
theorem dX1_rowFits_1 : decode cX1_rowFits 1 = .ok (.ifCond .ne 14, 3) := by decide +kernel
theorem dX1_rowFits_4 : decode cX1_rowFits 4 = .ok (.iload_n 2, 1) := by decide +kernel
theorem dX1_rowFits_5 : decode cX1_rowFits 5 = .ok (.iload_n 3, 1) := by decide +kernel
theorem dX1_rowFits_6 : decode cX1_rowFits 6 = .ok (.if_icmp .ne 7, 3) := by decide +kernel
theorem dX1_rowFits_9 : decode cX1_rowFits 9 = .ok (.iconst 1, 1) := by decide +kernel
theorem dX1_rowFits_10 : decode cX1_rowFits 10 = .ok (.goto 4, 3) := by decide +kernel
theorem dX1_rowFits_13 : decode cX1_rowFits 13 = .ok (.iconst 0, 1) := by decide +kernel
theorem dX1_rowFits_14 : decode cX1_rowFits 14 = .ok (.ireturn, 1) := by decide +kernel
theorem dX1_rowFits_15 : decode cX1_rowFits 15 = .ok (.iload_n 1, 1) := by decide +kernel
theorem dX1_rowFits_16 : decode cX1_rowFits 16 = .ok (.bipush 9, 2) := by decide +kernel
theorem dX1_rowFits_18 : decode cX1_rowFits 18 = .ok (.irem, 1) := by decide +kernel
theorem dX1_rowFits_19 : decode cX1_rowFits 19 = .ok (.iconst 1, 1) := by decide +kernel
theorem dX1_rowFits_20 : decode cX1_rowFits 20 = .ok (.isub, 1) := by decide +kernel
theorem dX1_rowFits_21 : decode cX1_rowFits 21 = .ok (.istore 4, 2) := by decide +kernel
theorem dX1_rowFits_23 : decode cX1_rowFits 23 = .ok (.iload_n 1, 1) := by decide +kernel
theorem dX1_rowFits_24 : decode cX1_rowFits 24 = .ok (.bipush 9, 2) := by decide +kernel
theorem dX1_rowFits_26 : decode cX1_rowFits 26 = .ok (.if_icmp .ge 12, 3) := by decide +kernel
theorem dX1_rowFits_29 : decode cX1_rowFits 29 = .ok (.aload_n 0, 1) := by decide +kernel
theorem dX1_rowFits_30 : decode cX1_rowFits 30 = .ok (.iload 4, 2) := by decide +kernel
theorem dX1_rowFits_32 : decode cX1_rowFits 32 = .ok (.iload_n 2, 1) := by decide +kernel
theorem dX1_rowFits_33 : decode cX1_rowFits 33 = .ok (.iload_n 3, 1) := by decide +kernel
theorem dX1_rowFits_34 : decode cX1_rowFits 34 = .ok (.invokevirtual 37, 3) := by decide +kernel
theorem dX1_rowFits_37 : decode cX1_rowFits 37 = .ok (.ireturn, 1) := by decide +kernel
theorem dX1_rowFits_38 : decode cX1_rowFits 38 = .ok (.iload_n 1, 1) := by decide +kernel
theorem dX1_rowFits_39 : decode cX1_rowFits 39 = .ok (.bipush 9, 2) := by decide +kernel
theorem dX1_rowFits_41 : decode cX1_rowFits 41 = .ok (.idiv, 1) := by decide +kernel
theorem dX1_rowFits_42 : decode cX1_rowFits 42 = .ok (.bipush 9, 2) := by decide +kernel
theorem dX1_rowFits_44 : decode cX1_rowFits 44 = .ok (.irem, 1) := by decide +kernel
theorem dX1_rowFits_45 : decode cX1_rowFits 45 = .ok (.iconst 1, 1) := by decide +kernel
theorem dX1_rowFits_46 : decode cX1_rowFits 46 = .ok (.isub, 1) := by decide +kernel
theorem dX1_rowFits_47 : decode cX1_rowFits 47 = .ok (.istore 5, 2) := by decide +kernel
theorem dX1_rowFits_49 : decode cX1_rowFits 49 = .ok (.iload_n 1, 1) := by decide +kernel
theorem dX1_rowFits_50 : decode cX1_rowFits 50 = .ok (.bipush 81, 2) := by decide +kernel
theorem dX1_rowFits_52 : decode cX1_rowFits 52 = .ok (.if_icmp .ge 14, 3) := by decide +kernel
theorem dX1_rowFits_55 : decode cX1_rowFits 55 = .ok (.aload_n 0, 1) := by decide +kernel
theorem dX1_rowFits_56 : decode cX1_rowFits 56 = .ok (.iload 5, 2) := by decide +kernel
theorem dX1_rowFits_58 : decode cX1_rowFits 58 = .ok (.iload 4, 2) := by decide +kernel
theorem dX1_rowFits_60 : decode cX1_rowFits 60 = .ok (.iload_n 2, 1) := by decide +kernel
theorem dX1_rowFits_61 : decode cX1_rowFits 61 = .ok (.iload_n 3, 1) := by decide +kernel
theorem dX1_rowFits_62 : decode cX1_rowFits 62 = .ok (.invokevirtual 41, 3) := by decide +kernel
theorem dX1_rowFits_65 : decode cX1_rowFits 65 = .ok (.ireturn, 1) := by decide +kernel
theorem dX1_rowFits_66 : decode cX1_rowFits 66 = .ok (.iload_n 1, 1) := by decide +kernel
theorem dX1_rowFits_67 : decode cX1_rowFits 67 = .ok (.bipush 81, 2) := by decide +kernel
theorem dX1_rowFits_69 : decode cX1_rowFits 69 = .ok (.idiv, 1) := by decide +kernel
theorem dX1_rowFits_70 : decode cX1_rowFits 70 = .ok (.iconst 1, 1) := by decide +kernel
theorem dX1_rowFits_71 : decode cX1_rowFits 71 = .ok (.isub, 1) := by decide +kernel
theorem dX1_rowFits_72 : decode cX1_rowFits 72 = .ok (.istore 6, 2) := by decide +kernel
theorem dX1_rowFits_74 : decode cX1_rowFits 74 = .ok (.iload_n 2, 1) := by decide +kernel
theorem dX1_rowFits_75 : decode cX1_rowFits 75 = .ok (.istore 7, 2) := by decide +kernel
theorem dX1_rowFits_77 : decode cX1_rowFits 77 = .ok (.iload 7, 2) := by decide +kernel
theorem dX1_rowFits_79 : decode cX1_rowFits 79 = .ok (.iload_n 3, 1) := by decide +kernel
theorem dX1_rowFits_80 : decode cX1_rowFits 80 = .ok (.if_icmp .gt 37, 3) := by decide +kernel
theorem dX1_rowFits_83 : decode cX1_rowFits 83 = .ok (.aload_n 0, 1) := by decide +kernel
theorem dX1_rowFits_84 : decode cX1_rowFits 84 = .ok (.iload 6, 2) := by decide +kernel
theorem dX1_rowFits_86 : decode cX1_rowFits 86 = .ok (.iload_n 2, 1) := by decide +kernel
theorem dX1_rowFits_87 : decode cX1_rowFits 87 = .ok (.iload 7, 2) := by decide +kernel
theorem dX1_rowFits_89 : decode cX1_rowFits 89 = .ok (.invokevirtual 37, 3) := by decide +kernel
theorem dX1_rowFits_92 : decode cX1_rowFits 92 = .ok (.ifCond .eq 19, 3) := by decide +kernel
theorem dX1_rowFits_95 : decode cX1_rowFits 95 = .ok (.aload_n 0, 1) := by decide +kernel
theorem dX1_rowFits_96 : decode cX1_rowFits 96 = .ok (.iload 5, 2) := by decide +kernel
theorem dX1_rowFits_98 : decode cX1_rowFits 98 = .ok (.iload 4, 2) := by decide +kernel
theorem dX1_rowFits_100 : decode cX1_rowFits 100 = .ok (.iload 7, 2) := by decide +kernel
theorem dX1_rowFits_102 : decode cX1_rowFits 102 = .ok (.iload_n 3, 1) := by decide +kernel
theorem dX1_rowFits_103 : decode cX1_rowFits 103 = .ok (.invokevirtual 41, 3) := by decide +kernel
theorem dX1_rowFits_106 : decode cX1_rowFits 106 = .ok (.ifCond .eq 5, 3) := by decide +kernel
theorem dX1_rowFits_109 : decode cX1_rowFits 109 = .ok (.iconst 1, 1) := by decide +kernel
theorem dX1_rowFits_110 : decode cX1_rowFits 110 = .ok (.ireturn, 1) := by decide +kernel
theorem dX1_rowFits_111 : decode cX1_rowFits 111 = .ok (.iinc 7 1, 3) := by decide +kernel
theorem dX1_rowFits_114 : decode cX1_rowFits 114 = .ok (.goto (-37), 3) := by decide +kernel
theorem dX1_rowFits_117 : decode cX1_rowFits 117 = .ok (.iconst 0, 1) := by decide +kernel
theorem dX1_rowFits_118 : decode cX1_rowFits 118 = .ok (.ireturn, 1) := by decide +kernel
abbrev cX1_signFits : ByteArray := prog_3_method_12_code
def yX1_signFits : MethodName := ⟨RX1, "signFits", "(III)Z"⟩
theorem dX1_signFits_0 : decode cX1_signFits 0 = .ok (.iload_n 1, 1) := by decide +kernel
theorem dX1_signFits_1 : decode cX1_signFits 1 = .ok (.iconst 4, 1) := by decide +kernel
theorem dX1_signFits_2 : decode cX1_signFits 2 = .ok (.if_icmp .le 32, 3) := by decide +kernel
theorem dX1_signFits_5 : decode cX1_signFits 5 = .ok (.iload_n 3, 1) := by decide +kernel
theorem dX1_signFits_6 : decode cX1_signFits 6 = .ok (.iload_n 2, 1) := by decide +kernel
theorem dX1_signFits_7 : decode cX1_signFits 7 = .ok (.iconst 1, 1) := by decide +kernel
theorem dX1_signFits_8 : decode cX1_signFits 8 = .ok (.iadd, 1) := by decide +kernel
theorem dX1_signFits_9 : decode cX1_signFits 9 = .ok (.if_icmp .ne 23, 3) := by decide +kernel
theorem dX1_signFits_12 : decode cX1_signFits 12 = .ok (.iload_n 2, 1) := by decide +kernel
theorem dX1_signFits_13 : decode cX1_signFits 13 = .ok (.bipush 8, 2) := by decide +kernel
theorem dX1_signFits_15 : decode cX1_signFits 15 = .ok (.if_icmp .ge 17, 3) := by decide +kernel
theorem dX1_signFits_18 : decode cX1_signFits 18 = .ok (.aload_n 0, 1) := by decide +kernel
theorem dX1_signFits_19 : decode cX1_signFits 19 = .ok (.getfield 16, 3) := by decide +kernel
theorem dX1_signFits_22 : decode cX1_signFits 22 = .ok (.iload_n 2, 1) := by decide +kernel
theorem dX1_signFits_23 : decode cX1_signFits 23 = .ok (.iaload, 1) := by decide +kernel
theorem dX1_signFits_24 : decode cX1_signFits 24 = .ok (.iload_n 1, 1) := by decide +kernel
theorem dX1_signFits_25 : decode cX1_signFits 25 = .ok (.if_icmp .ne 7, 3) := by decide +kernel
theorem dX1_signFits_28 : decode cX1_signFits 28 = .ok (.iconst 1, 1) := by decide +kernel
theorem dX1_signFits_29 : decode cX1_signFits 29 = .ok (.goto 4, 3) := by decide +kernel
theorem dX1_signFits_32 : decode cX1_signFits 32 = .ok (.iconst 0, 1) := by decide +kernel
theorem dX1_signFits_33 : decode cX1_signFits 33 = .ok (.ireturn, 1) := by decide +kernel
theorem dX1_signFits_34 : decode cX1_signFits 34 = .ok (.aload_n 0, 1) := by decide +kernel
theorem dX1_signFits_35 : decode cX1_signFits 35 = .ok (.getfield 19, 3) := by decide +kernel
theorem dX1_signFits_38 : decode cX1_signFits 38 = .ok (.bipush 81, 2) := by decide +kernel
theorem dX1_signFits_40 : decode cX1_signFits 40 = .ok (.iload_n 1, 1) := by decide +kernel
theorem dX1_signFits_41 : decode cX1_signFits 41 = .ok (.imul, 1) := by decide +kernel
theorem dX1_signFits_42 : decode cX1_signFits 42 = .ok (.bipush 9, 2) := by decide +kernel
theorem dX1_signFits_44 : decode cX1_signFits 44 = .ok (.iload_n 2, 1) := by decide +kernel
theorem dX1_signFits_45 : decode cX1_signFits 45 = .ok (.imul, 1) := by decide +kernel
theorem dX1_signFits_46 : decode cX1_signFits 46 = .ok (.iadd, 1) := by decide +kernel
theorem dX1_signFits_47 : decode cX1_signFits 47 = .ok (.iload_n 3, 1) := by decide +kernel
theorem dX1_signFits_48 : decode cX1_signFits 48 = .ok (.iadd, 1) := by decide +kernel
theorem dX1_signFits_49 : decode cX1_signFits 49 = .ok (.baload, 1) := by decide +kernel
theorem dX1_signFits_50 : decode cX1_signFits 50 = .ok (.ireturn, 1) := by decide +kernel
abbrev cX1_twoFit : ByteArray := prog_3_method_13_code
def yX1_twoFit : MethodName := ⟨RX1, "twoFit", "(IIII)Z"⟩
theorem dX1_twoFit_0 : decode cX1_twoFit 0 = .ok (.iload_n 3, 1) := by decide +kernel
theorem dX1_twoFit_1 : decode cX1_twoFit 1 = .ok (.istore 5, 2) := by decide +kernel
theorem dX1_twoFit_3 : decode cX1_twoFit 3 = .ok (.iload 5, 2) := by decide +kernel
theorem dX1_twoFit_5 : decode cX1_twoFit 5 = .ok (.iload 4, 2) := by decide +kernel
theorem dX1_twoFit_7 : decode cX1_twoFit 7 = .ok (.if_icmp .gt 34, 3) := by decide +kernel
theorem dX1_twoFit_10 : decode cX1_twoFit 10 = .ok (.aload_n 0, 1) := by decide +kernel
theorem dX1_twoFit_11 : decode cX1_twoFit 11 = .ok (.iload_n 1, 1) := by decide +kernel
theorem dX1_twoFit_12 : decode cX1_twoFit 12 = .ok (.iload_n 3, 1) := by decide +kernel
theorem dX1_twoFit_13 : decode cX1_twoFit 13 = .ok (.iload 5, 2) := by decide +kernel
theorem dX1_twoFit_15 : decode cX1_twoFit 15 = .ok (.invokevirtual 37, 3) := by decide +kernel
theorem dX1_twoFit_18 : decode cX1_twoFit 18 = .ok (.ifCond .eq 17, 3) := by decide +kernel
theorem dX1_twoFit_21 : decode cX1_twoFit 21 = .ok (.aload_n 0, 1) := by decide +kernel
theorem dX1_twoFit_22 : decode cX1_twoFit 22 = .ok (.iload_n 2, 1) := by decide +kernel
theorem dX1_twoFit_23 : decode cX1_twoFit 23 = .ok (.iload 5, 2) := by decide +kernel
theorem dX1_twoFit_25 : decode cX1_twoFit 25 = .ok (.iload 4, 2) := by decide +kernel
theorem dX1_twoFit_27 : decode cX1_twoFit 27 = .ok (.invokevirtual 37, 3) := by decide +kernel
theorem dX1_twoFit_30 : decode cX1_twoFit 30 = .ok (.ifCond .eq 5, 3) := by decide +kernel
theorem dX1_twoFit_33 : decode cX1_twoFit 33 = .ok (.iconst 1, 1) := by decide +kernel
theorem dX1_twoFit_34 : decode cX1_twoFit 34 = .ok (.ireturn, 1) := by decide +kernel
theorem dX1_twoFit_35 : decode cX1_twoFit 35 = .ok (.iinc 5 1, 3) := by decide +kernel
theorem dX1_twoFit_38 : decode cX1_twoFit 38 = .ok (.goto (-35), 3) := by decide +kernel
theorem dX1_twoFit_41 : decode cX1_twoFit 41 = .ok (.iconst 0, 1) := by decide +kernel
theorem dX1_twoFit_42 : decode cX1_twoFit 42 = .ok (.ireturn, 1) := by decide +kernel
abbrev cX1_fits : ByteArray := prog_3_method_21_code
def yX1_fits : MethodName := ⟨RX1, "fits", "(III)I"⟩
theorem dX1_fits_0 : decode cX1_fits 0 = .ok (.aload_n 0, 1) := by decide +kernel
theorem dX1_fits_1 : decode cX1_fits 1 = .ok (.iload_n 1, 1) := by decide +kernel
theorem dX1_fits_2 : decode cX1_fits 2 = .ok (.invokevirtual 58, 3) := by decide +kernel
theorem dX1_fits_5 : decode cX1_fits 5 = .ok (.ifCond .eq 5, 3) := by decide +kernel
theorem dX1_fits_8 : decode cX1_fits 8 = .ok (.iconst (-1), 1) := by decide +kernel
theorem dX1_fits_9 : decode cX1_fits 9 = .ok (.ireturn, 1) := by decide +kernel
theorem dX1_fits_10 : decode cX1_fits 10 = .ok (.aload_n 0, 1) := by decide +kernel
theorem dX1_fits_11 : decode cX1_fits 11 = .ok (.iload_n 2, 1) := by decide +kernel
theorem dX1_fits_12 : decode cX1_fits 12 = .ok (.iload_n 3, 1) := by decide +kernel
theorem dX1_fits_13 : decode cX1_fits 13 = .ok (.invokevirtual 61, 3) := by decide +kernel
theorem dX1_fits_16 : decode cX1_fits 16 = .ok (.ifCond .eq 6, 3) := by decide +kernel
theorem dX1_fits_19 : decode cX1_fits 19 = .ok (.bipush (-2), 2) := by decide +kernel
theorem dX1_fits_21 : decode cX1_fits 21 = .ok (.ireturn, 1) := by decide +kernel
theorem dX1_fits_22 : decode cX1_fits 22 = .ok (.aload_n 0, 1) := by decide +kernel
theorem dX1_fits_23 : decode cX1_fits 23 = .ok (.invokevirtual 55, 3) := by decide +kernel
theorem dX1_fits_26 : decode cX1_fits 26 = .ok (.aload_n 0, 1) := by decide +kernel
theorem dX1_fits_27 : decode cX1_fits 27 = .ok (.iload_n 1, 1) := by decide +kernel
theorem dX1_fits_28 : decode cX1_fits 28 = .ok (.iload_n 2, 1) := by decide +kernel
theorem dX1_fits_29 : decode cX1_fits 29 = .ok (.iload_n 3, 1) := by decide +kernel
theorem dX1_fits_30 : decode cX1_fits 30 = .ok (.invokevirtual 37, 3) := by decide +kernel
theorem dX1_fits_33 : decode cX1_fits 33 = .ok (.ifCond .eq 7, 3) := by decide +kernel
theorem dX1_fits_36 : decode cX1_fits 36 = .ok (.iconst 1, 1) := by decide +kernel
theorem dX1_fits_37 : decode cX1_fits 37 = .ok (.goto 4, 3) := by decide +kernel
theorem dX1_fits_40 : decode cX1_fits 40 = .ok (.iconst 0, 1) := by decide +kernel
theorem dX1_fits_41 : decode cX1_fits 41 = .ok (.ireturn, 1) := by decide +kernel
abbrev cX1_badSign : ByteArray := prog_3_method_19_code
def yX1_badSign : MethodName := ⟨RX1, "badSign", "(I)Z"⟩
theorem dX1_badSign_0 : decode cX1_badSign 0 = .ok (.iload_n 1, 1) := by decide +kernel
theorem dX1_badSign_1 : decode cX1_badSign 1 = .ok (.ifCond .lt 9, 3) := by decide +kernel
theorem dX1_badSign_4 : decode cX1_badSign 4 = .ok (.iload_n 1, 1) := by decide +kernel
theorem dX1_badSign_5 : decode cX1_badSign 5 = .ok (.bipush 7, 2) := by decide +kernel
theorem dX1_badSign_7 : decode cX1_badSign 7 = .ok (.if_icmp .le 7, 3) := by decide +kernel
theorem dX1_badSign_10 : decode cX1_badSign 10 = .ok (.iconst 1, 1) := by decide +kernel
theorem dX1_badSign_11 : decode cX1_badSign 11 = .ok (.goto 4, 3) := by decide +kernel
theorem dX1_badSign_14 : decode cX1_badSign 14 = .ok (.iconst 0, 1) := by decide +kernel
theorem dX1_badSign_15 : decode cX1_badSign 15 = .ok (.ireturn, 1) := by decide +kernel
abbrev cX1_badStretch : ByteArray := prog_3_method_20_code
def yX1_badStretch : MethodName := ⟨RX1, "badStretch", "(II)Z"⟩
theorem dX1_badStretch_0 : decode cX1_badStretch 0 = .ok (.iload_n 1, 1) := by decide +kernel
theorem dX1_badStretch_1 : decode cX1_badStretch 1 = .ok (.ifCond .lt 16, 3) := by decide +kernel
theorem dX1_badStretch_4 : decode cX1_badStretch 4 = .ok (.iload_n 1, 1) := by decide +kernel
theorem dX1_badStretch_5 : decode cX1_badStretch 5 = .ok (.iload_n 2, 1) := by decide +kernel
theorem dX1_badStretch_6 : decode cX1_badStretch 6 = .ok (.if_icmp .gt 11, 3) := by decide +kernel
theorem dX1_badStretch_9 : decode cX1_badStretch 9 = .ok (.iload_n 2, 1) := by decide +kernel
theorem dX1_badStretch_10 : decode cX1_badStretch 10 = .ok (.aload_n 0, 1) := by decide +kernel
theorem dX1_badStretch_11 : decode cX1_badStretch 11 = .ok (.getfield 34, 3) := by decide +kernel
theorem dX1_badStretch_14 : decode cX1_badStretch 14 = .ok (.if_icmp .le 7, 3) := by decide +kernel
theorem dX1_badStretch_17 : decode cX1_badStretch 17 = .ok (.iconst 1, 1) := by decide +kernel
theorem dX1_badStretch_18 : decode cX1_badStretch 18 = .ok (.goto 4, 3) := by decide +kernel
theorem dX1_badStretch_21 : decode cX1_badStretch 21 = .ok (.iconst 0, 1) := by decide +kernel
theorem dX1_badStretch_22 : decode cX1_badStretch 22 = .ok (.ireturn, 1) := by decide +kernel
abbrev cX1_ends : ByteArray := prog_3_method_22_code
def yX1_ends : MethodName := ⟨RX1, "ends", "(II)I"⟩
theorem dX1_ends_0 : decode cX1_ends 0 = .ok (.aload_n 0, 1) := by decide +kernel
theorem dX1_ends_1 : decode cX1_ends 1 = .ok (.iload_n 1, 1) := by decide +kernel
theorem dX1_ends_2 : decode cX1_ends 2 = .ok (.invokevirtual 58, 3) := by decide +kernel
theorem dX1_ends_5 : decode cX1_ends 5 = .ok (.ifCond .eq 5, 3) := by decide +kernel
theorem dX1_ends_8 : decode cX1_ends 8 = .ok (.iconst (-1), 1) := by decide +kernel
theorem dX1_ends_9 : decode cX1_ends 9 = .ok (.ireturn, 1) := by decide +kernel
theorem dX1_ends_10 : decode cX1_ends 10 = .ok (.iload_n 2, 1) := by decide +kernel
theorem dX1_ends_11 : decode cX1_ends 11 = .ok (.ifCond .lt 11, 3) := by decide +kernel
theorem dX1_ends_14 : decode cX1_ends 14 = .ok (.iload_n 2, 1) := by decide +kernel
theorem dX1_ends_15 : decode cX1_ends 15 = .ok (.aload_n 0, 1) := by decide +kernel
theorem dX1_ends_16 : decode cX1_ends 16 = .ok (.getfield 34, 3) := by decide +kernel
theorem dX1_ends_19 : decode cX1_ends 19 = .ok (.if_icmp .le 6, 3) := by decide +kernel
theorem dX1_ends_22 : decode cX1_ends 22 = .ok (.bipush (-2), 2) := by decide +kernel
theorem dX1_ends_24 : decode cX1_ends 24 = .ok (.ireturn, 1) := by decide +kernel
theorem dX1_ends_25 : decode cX1_ends 25 = .ok (.aload_n 0, 1) := by decide +kernel
theorem dX1_ends_26 : decode cX1_ends 26 = .ok (.invokevirtual 55, 3) := by decide +kernel
theorem dX1_ends_29 : decode cX1_ends 29 = .ok (.iconst 0, 1) := by decide +kernel
theorem dX1_ends_30 : decode cX1_ends 30 = .ok (.istore_n 3, 1) := by decide +kernel
theorem dX1_ends_31 : decode cX1_ends 31 = .ok (.iload_n 2, 1) := by decide +kernel
theorem dX1_ends_32 : decode cX1_ends 32 = .ok (.istore 4, 2) := by decide +kernel
theorem dX1_ends_34 : decode cX1_ends 34 = .ok (.iload 4, 2) := by decide +kernel
theorem dX1_ends_36 : decode cX1_ends 36 = .ok (.aload_n 0, 1) := by decide +kernel
theorem dX1_ends_37 : decode cX1_ends 37 = .ok (.getfield 34, 3) := by decide +kernel
theorem dX1_ends_40 : decode cX1_ends 40 = .ok (.if_icmp .gt 34, 3) := by decide +kernel
theorem dX1_ends_43 : decode cX1_ends 43 = .ok (.iload 4, 2) := by decide +kernel
theorem dX1_ends_45 : decode cX1_ends 45 = .ok (.bipush 9, 2) := by decide +kernel
theorem dX1_ends_47 : decode cX1_ends 47 = .ok (.if_icmp .ge 27, 3) := by decide +kernel
theorem dX1_ends_50 : decode cX1_ends 50 = .ok (.aload_n 0, 1) := by decide +kernel
theorem dX1_ends_51 : decode cX1_ends 51 = .ok (.iload_n 1, 1) := by decide +kernel
theorem dX1_ends_52 : decode cX1_ends 52 = .ok (.iload_n 2, 1) := by decide +kernel
theorem dX1_ends_53 : decode cX1_ends 53 = .ok (.iload 4, 2) := by decide +kernel
theorem dX1_ends_55 : decode cX1_ends 55 = .ok (.invokevirtual 37, 3) := by decide +kernel
theorem dX1_ends_58 : decode cX1_ends 58 = .ok (.ifCond .eq 10, 3) := by decide +kernel
theorem dX1_ends_61 : decode cX1_ends 61 = .ok (.iload_n 3, 1) := by decide +kernel
theorem dX1_ends_62 : decode cX1_ends 62 = .ok (.iconst 1, 1) := by decide +kernel
theorem dX1_ends_63 : decode cX1_ends 63 = .ok (.iload 4, 2) := by decide +kernel
theorem dX1_ends_65 : decode cX1_ends 65 = .ok (.ishl, 1) := by decide +kernel
theorem dX1_ends_66 : decode cX1_ends 66 = .ok (.ior, 1) := by decide +kernel
theorem dX1_ends_67 : decode cX1_ends 67 = .ok (.istore_n 3, 1) := by decide +kernel
theorem dX1_ends_68 : decode cX1_ends 68 = .ok (.iinc 4 1, 3) := by decide +kernel
theorem dX1_ends_71 : decode cX1_ends 71 = .ok (.goto (-37), 3) := by decide +kernel
theorem dX1_ends_74 : decode cX1_ends 74 = .ok (.iload_n 3, 1) := by decide +kernel
theorem dX1_ends_75 : decode cX1_ends 75 = .ok (.ireturn, 1) := by decide +kernel
abbrev cX1_ruleFits : ByteArray := prog_3_method_23_code
def yX1_ruleFits : MethodName := ⟨RX1, "ruleFits", "(III)I"⟩
theorem dX1_ruleFits_0 : decode cX1_ruleFits 0 = .ok (.aload_n 0, 1) := by decide +kernel
theorem dX1_ruleFits_1 : decode cX1_ruleFits 1 = .ok (.iload_n 1, 1) := by decide +kernel
theorem dX1_ruleFits_2 : decode cX1_ruleFits 2 = .ok (.invokevirtual 31, 3) := by decide +kernel
theorem dX1_ruleFits_5 : decode cX1_ruleFits 5 = .ok (.ifCond .eq 5, 3) := by decide +kernel
theorem dX1_ruleFits_8 : decode cX1_ruleFits 8 = .ok (.iconst (-1), 1) := by decide +kernel
theorem dX1_ruleFits_9 : decode cX1_ruleFits 9 = .ok (.ireturn, 1) := by decide +kernel
theorem dX1_ruleFits_10 : decode cX1_ruleFits 10 = .ok (.aload_n 0, 1) := by decide +kernel
theorem dX1_ruleFits_11 : decode cX1_ruleFits 11 = .ok (.iload_n 2, 1) := by decide +kernel
theorem dX1_ruleFits_12 : decode cX1_ruleFits 12 = .ok (.iload_n 3, 1) := by decide +kernel
theorem dX1_ruleFits_13 : decode cX1_ruleFits 13 = .ok (.invokevirtual 61, 3) := by decide +kernel
theorem dX1_ruleFits_16 : decode cX1_ruleFits 16 = .ok (.ifCond .eq 6, 3) := by decide +kernel
theorem dX1_ruleFits_19 : decode cX1_ruleFits 19 = .ok (.bipush (-2), 2) := by decide +kernel
theorem dX1_ruleFits_21 : decode cX1_ruleFits 21 = .ok (.ireturn, 1) := by decide +kernel
theorem dX1_ruleFits_22 : decode cX1_ruleFits 22 = .ok (.aload_n 0, 1) := by decide +kernel
theorem dX1_ruleFits_23 : decode cX1_ruleFits 23 = .ok (.invokevirtual 55, 3) := by decide +kernel
theorem dX1_ruleFits_26 : decode cX1_ruleFits 26 = .ok (.aload_n 0, 1) := by decide +kernel
theorem dX1_ruleFits_27 : decode cX1_ruleFits 27 = .ok (.aload_n 0, 1) := by decide +kernel
theorem dX1_ruleFits_28 : decode cX1_ruleFits 28 = .ok (.getfield 13, 3) := by decide +kernel
theorem dX1_ruleFits_31 : decode cX1_ruleFits 31 = .ok (.iload_n 1, 1) := by decide +kernel
theorem dX1_ruleFits_32 : decode cX1_ruleFits 32 = .ok (.iaload, 1) := by decide +kernel
theorem dX1_ruleFits_33 : decode cX1_ruleFits 33 = .ok (.iload_n 2, 1) := by decide +kernel
theorem dX1_ruleFits_34 : decode cX1_ruleFits 34 = .ok (.iload_n 3, 1) := by decide +kernel
theorem dX1_ruleFits_35 : decode cX1_ruleFits 35 = .ok (.invokevirtual 45, 3) := by decide +kernel
theorem dX1_ruleFits_38 : decode cX1_ruleFits 38 = .ok (.ifCond .eq 7, 3) := by decide +kernel
theorem dX1_ruleFits_41 : decode cX1_ruleFits 41 = .ok (.iconst 1, 1) := by decide +kernel
theorem dX1_ruleFits_42 : decode cX1_ruleFits 42 = .ok (.goto 4, 3) := by decide +kernel
theorem dX1_ruleFits_45 : decode cX1_ruleFits 45 = .ok (.iconst 0, 1) := by decide +kernel
theorem dX1_ruleFits_46 : decode cX1_ruleFits 46 = .ok (.ireturn, 1) := by decide +kernel
abbrev cX1_stretches : ByteArray := prog_3_method_24_code
def yX1_stretches : MethodName := ⟨RX1, "stretches", "(I)I"⟩
theorem dX1_stretches_0 : decode cX1_stretches 0 = .ok (.aload_n 0, 1) := by decide +kernel
theorem dX1_stretches_1 : decode cX1_stretches 1 = .ok (.iload_n 1, 1) := by decide +kernel
theorem dX1_stretches_2 : decode cX1_stretches 2 = .ok (.invokevirtual 58, 3) := by decide +kernel
theorem dX1_stretches_5 : decode cX1_stretches 5 = .ok (.ifCond .eq 5, 3) := by decide +kernel
theorem dX1_stretches_8 : decode cX1_stretches 8 = .ok (.iconst (-1), 1) := by decide +kernel
theorem dX1_stretches_9 : decode cX1_stretches 9 = .ok (.ireturn, 1) := by decide +kernel
theorem dX1_stretches_10 : decode cX1_stretches 10 = .ok (.aload_n 0, 1) := by decide +kernel
theorem dX1_stretches_11 : decode cX1_stretches 11 = .ok (.invokevirtual 55, 3) := by decide +kernel
theorem dX1_stretches_14 : decode cX1_stretches 14 = .ok (.iconst 0, 1) := by decide +kernel
theorem dX1_stretches_15 : decode cX1_stretches 15 = .ok (.istore_n 2, 1) := by decide +kernel
theorem dX1_stretches_16 : decode cX1_stretches 16 = .ok (.iconst 0, 1) := by decide +kernel
theorem dX1_stretches_17 : decode cX1_stretches 17 = .ok (.istore_n 3, 1) := by decide +kernel
theorem dX1_stretches_18 : decode cX1_stretches 18 = .ok (.iload_n 3, 1) := by decide +kernel
theorem dX1_stretches_19 : decode cX1_stretches 19 = .ok (.aload_n 0, 1) := by decide +kernel
theorem dX1_stretches_20 : decode cX1_stretches 20 = .ok (.getfield 34, 3) := by decide +kernel
theorem dX1_stretches_23 : decode cX1_stretches 23 = .ok (.if_icmp .gt 41, 3) := by decide +kernel
theorem dX1_stretches_26 : decode cX1_stretches 26 = .ok (.iload_n 3, 1) := by decide +kernel
theorem dX1_stretches_27 : decode cX1_stretches 27 = .ok (.istore 4, 2) := by decide +kernel
theorem dX1_stretches_29 : decode cX1_stretches 29 = .ok (.iload 4, 2) := by decide +kernel
theorem dX1_stretches_31 : decode cX1_stretches 31 = .ok (.aload_n 0, 1) := by decide +kernel
theorem dX1_stretches_32 : decode cX1_stretches 32 = .ok (.getfield 34, 3) := by decide +kernel
theorem dX1_stretches_35 : decode cX1_stretches 35 = .ok (.if_icmp .gt 23, 3) := by decide +kernel
theorem dX1_stretches_38 : decode cX1_stretches 38 = .ok (.aload_n 0, 1) := by decide +kernel
theorem dX1_stretches_39 : decode cX1_stretches 39 = .ok (.iload_n 1, 1) := by decide +kernel
theorem dX1_stretches_40 : decode cX1_stretches 40 = .ok (.iload_n 3, 1) := by decide +kernel
theorem dX1_stretches_41 : decode cX1_stretches 41 = .ok (.iload 4, 2) := by decide +kernel
theorem dX1_stretches_43 : decode cX1_stretches 43 = .ok (.invokevirtual 37, 3) := by decide +kernel
theorem dX1_stretches_46 : decode cX1_stretches 46 = .ok (.ifCond .eq 6, 3) := by decide +kernel
theorem dX1_stretches_49 : decode cX1_stretches 49 = .ok (.iinc 2 1, 3) := by decide +kernel
theorem dX1_stretches_52 : decode cX1_stretches 52 = .ok (.iinc 4 1, 3) := by decide +kernel
theorem dX1_stretches_55 : decode cX1_stretches 55 = .ok (.goto (-26), 3) := by decide +kernel
theorem dX1_stretches_58 : decode cX1_stretches 58 = .ok (.iinc 3 1, 3) := by decide +kernel
theorem dX1_stretches_61 : decode cX1_stretches 61 = .ok (.goto (-43), 3) := by decide +kernel
theorem dX1_stretches_64 : decode cX1_stretches 64 = .ok (.iload_n 2, 1) := by decide +kernel
theorem dX1_stretches_65 : decode cX1_stretches 65 = .ok (.ireturn, 1) := by decide +kernel
abbrev cX1_longest : ByteArray := prog_3_method_25_code
def yX1_longest : MethodName := ⟨RX1, "longest", "(I)I"⟩
theorem dX1_longest_0 : decode cX1_longest 0 = .ok (.aload_n 0, 1) := by decide +kernel
theorem dX1_longest_1 : decode cX1_longest 1 = .ok (.iload_n 1, 1) := by decide +kernel
theorem dX1_longest_2 : decode cX1_longest 2 = .ok (.invokevirtual 58, 3) := by decide +kernel
theorem dX1_longest_5 : decode cX1_longest 5 = .ok (.ifCond .eq 5, 3) := by decide +kernel
theorem dX1_longest_8 : decode cX1_longest 8 = .ok (.iconst (-1), 1) := by decide +kernel
theorem dX1_longest_9 : decode cX1_longest 9 = .ok (.ireturn, 1) := by decide +kernel
theorem dX1_longest_10 : decode cX1_longest 10 = .ok (.aload_n 0, 1) := by decide +kernel
theorem dX1_longest_11 : decode cX1_longest 11 = .ok (.invokevirtual 55, 3) := by decide +kernel
theorem dX1_longest_14 : decode cX1_longest 14 = .ok (.bipush (-2), 2) := by decide +kernel
theorem dX1_longest_16 : decode cX1_longest 16 = .ok (.istore_n 2, 1) := by decide +kernel
theorem dX1_longest_17 : decode cX1_longest 17 = .ok (.iconst 0, 1) := by decide +kernel
theorem dX1_longest_18 : decode cX1_longest 18 = .ok (.istore_n 3, 1) := by decide +kernel
theorem dX1_longest_19 : decode cX1_longest 19 = .ok (.iload_n 3, 1) := by decide +kernel
theorem dX1_longest_20 : decode cX1_longest 20 = .ok (.aload_n 0, 1) := by decide +kernel
theorem dX1_longest_21 : decode cX1_longest 21 = .ok (.getfield 34, 3) := by decide +kernel
theorem dX1_longest_24 : decode cX1_longest 24 = .ok (.if_icmp .gt 51, 3) := by decide +kernel
theorem dX1_longest_27 : decode cX1_longest 27 = .ok (.iload_n 3, 1) := by decide +kernel
theorem dX1_longest_28 : decode cX1_longest 28 = .ok (.istore 4, 2) := by decide +kernel
theorem dX1_longest_30 : decode cX1_longest 30 = .ok (.iload 4, 2) := by decide +kernel
theorem dX1_longest_32 : decode cX1_longest 32 = .ok (.aload_n 0, 1) := by decide +kernel
theorem dX1_longest_33 : decode cX1_longest 33 = .ok (.getfield 34, 3) := by decide +kernel
theorem dX1_longest_36 : decode cX1_longest 36 = .ok (.if_icmp .gt 33, 3) := by decide +kernel
theorem dX1_longest_39 : decode cX1_longest 39 = .ok (.iload 4, 2) := by decide +kernel
theorem dX1_longest_41 : decode cX1_longest 41 = .ok (.iload_n 3, 1) := by decide +kernel
theorem dX1_longest_42 : decode cX1_longest 42 = .ok (.isub, 1) := by decide +kernel
theorem dX1_longest_43 : decode cX1_longest 43 = .ok (.iload_n 2, 1) := by decide +kernel
theorem dX1_longest_44 : decode cX1_longest 44 = .ok (.if_icmp .le 19, 3) := by decide +kernel
theorem dX1_longest_47 : decode cX1_longest 47 = .ok (.aload_n 0, 1) := by decide +kernel
theorem dX1_longest_48 : decode cX1_longest 48 = .ok (.iload_n 1, 1) := by decide +kernel
theorem dX1_longest_49 : decode cX1_longest 49 = .ok (.iload_n 3, 1) := by decide +kernel
theorem dX1_longest_50 : decode cX1_longest 50 = .ok (.iload 4, 2) := by decide +kernel
theorem dX1_longest_52 : decode cX1_longest 52 = .ok (.invokevirtual 37, 3) := by decide +kernel
theorem dX1_longest_55 : decode cX1_longest 55 = .ok (.ifCond .eq 8, 3) := by decide +kernel
theorem dX1_longest_58 : decode cX1_longest 58 = .ok (.iload 4, 2) := by decide +kernel
theorem dX1_longest_60 : decode cX1_longest 60 = .ok (.iload_n 3, 1) := by decide +kernel
theorem dX1_longest_61 : decode cX1_longest 61 = .ok (.isub, 1) := by decide +kernel
theorem dX1_longest_62 : decode cX1_longest 62 = .ok (.istore_n 2, 1) := by decide +kernel
theorem dX1_longest_63 : decode cX1_longest 63 = .ok (.iinc 4 1, 3) := by decide +kernel
theorem dX1_longest_66 : decode cX1_longest 66 = .ok (.goto (-36), 3) := by decide +kernel
theorem dX1_longest_69 : decode cX1_longest 69 = .ok (.iinc 3 1, 3) := by decide +kernel
theorem dX1_longest_72 : decode cX1_longest 72 = .ok (.goto (-53), 3) := by decide +kernel
theorem dX1_longest_75 : decode cX1_longest 75 = .ok (.iload_n 2, 1) := by decide +kernel
theorem dX1_longest_76 : decode cX1_longest 76 = .ok (.ireturn, 1) := by decide +kernel
abbrev cX1_empty : ByteArray := prog_3_method_26_code
def yX1_empty : MethodName := ⟨RX1, "empty", "(I)I"⟩
theorem dX1_empty_0 : decode cX1_empty 0 = .ok (.iload_n 1, 1) := by decide +kernel
theorem dX1_empty_1 : decode cX1_empty 1 = .ok (.ifCond .lt 8, 3) := by decide +kernel
theorem dX1_empty_4 : decode cX1_empty 4 = .ok (.iload_n 1, 1) := by decide +kernel
theorem dX1_empty_5 : decode cX1_empty 5 = .ok (.iconst 4, 1) := by decide +kernel
theorem dX1_empty_6 : decode cX1_empty 6 = .ok (.if_icmp .le 5, 3) := by decide +kernel
theorem dX1_empty_9 : decode cX1_empty 9 = .ok (.iconst (-1), 1) := by decide +kernel
theorem dX1_empty_10 : decode cX1_empty 10 = .ok (.ireturn, 1) := by decide +kernel
theorem dX1_empty_11 : decode cX1_empty 11 = .ok (.aload_n 0, 1) := by decide +kernel
theorem dX1_empty_12 : decode cX1_empty 12 = .ok (.invokevirtual 55, 3) := by decide +kernel
theorem dX1_empty_15 : decode cX1_empty 15 = .ok (.aload_n 0, 1) := by decide +kernel
theorem dX1_empty_16 : decode cX1_empty 16 = .ok (.iload_n 1, 1) := by decide +kernel
theorem dX1_empty_17 : decode cX1_empty 17 = .ok (.iconst 0, 1) := by decide +kernel
theorem dX1_empty_18 : decode cX1_empty 18 = .ok (.iconst 0, 1) := by decide +kernel
theorem dX1_empty_19 : decode cX1_empty 19 = .ok (.invokevirtual 37, 3) := by decide +kernel
theorem dX1_empty_22 : decode cX1_empty 22 = .ok (.ifCond .eq 7, 3) := by decide +kernel
theorem dX1_empty_25 : decode cX1_empty 25 = .ok (.iconst 1, 1) := by decide +kernel
theorem dX1_empty_26 : decode cX1_empty 26 = .ok (.goto 4, 3) := by decide +kernel
theorem dX1_empty_29 : decode cX1_empty 29 = .ok (.iconst 0, 1) := by decide +kernel
theorem dX1_empty_30 : decode cX1_empty 30 = .ok (.ireturn, 1) := by decide +kernel
abbrev cX1_ways : ByteArray := prog_3_method_27_code
def yX1_ways : MethodName := ⟨RX1, "ways", "(III)I"⟩
theorem dX1_ways_0 : decode cX1_ways 0 = .ok (.iload_n 1, 1) := by decide +kernel
theorem dX1_ways_1 : decode cX1_ways 1 = .ok (.ifCond .lt 8, 3) := by decide +kernel
theorem dX1_ways_4 : decode cX1_ways 4 = .ok (.iload_n 1, 1) := by decide +kernel
theorem dX1_ways_5 : decode cX1_ways 5 = .ok (.iconst 4, 1) := by decide +kernel
theorem dX1_ways_6 : decode cX1_ways 6 = .ok (.if_icmp .le 5, 3) := by decide +kernel
theorem dX1_ways_9 : decode cX1_ways 9 = .ok (.iconst (-1), 1) := by decide +kernel
theorem dX1_ways_10 : decode cX1_ways 10 = .ok (.ireturn, 1) := by decide +kernel
theorem dX1_ways_11 : decode cX1_ways 11 = .ok (.aload_n 0, 1) := by decide +kernel
theorem dX1_ways_12 : decode cX1_ways 12 = .ok (.iload_n 2, 1) := by decide +kernel
theorem dX1_ways_13 : decode cX1_ways 13 = .ok (.iload_n 3, 1) := by decide +kernel
theorem dX1_ways_14 : decode cX1_ways 14 = .ok (.invokevirtual 61, 3) := by decide +kernel
theorem dX1_ways_17 : decode cX1_ways 17 = .ok (.ifCond .eq 6, 3) := by decide +kernel
theorem dX1_ways_20 : decode cX1_ways 20 = .ok (.bipush (-2), 2) := by decide +kernel
theorem dX1_ways_22 : decode cX1_ways 22 = .ok (.ireturn, 1) := by decide +kernel
theorem dX1_ways_23 : decode cX1_ways 23 = .ok (.aload_n 0, 1) := by decide +kernel
theorem dX1_ways_24 : decode cX1_ways 24 = .ok (.invokevirtual 55, 3) := by decide +kernel
theorem dX1_ways_27 : decode cX1_ways 27 = .ok (.iconst 0, 1) := by decide +kernel
theorem dX1_ways_28 : decode cX1_ways 28 = .ok (.istore 4, 2) := by decide +kernel
theorem dX1_ways_30 : decode cX1_ways 30 = .ok (.iconst 0, 1) := by decide +kernel
theorem dX1_ways_31 : decode cX1_ways 31 = .ok (.istore 5, 2) := by decide +kernel
theorem dX1_ways_33 : decode cX1_ways 33 = .ok (.iload 5, 2) := by decide +kernel
theorem dX1_ways_35 : decode cX1_ways 35 = .ok (.aload_n 0, 1) := by decide +kernel
theorem dX1_ways_36 : decode cX1_ways 36 = .ok (.getfield 27, 3) := by decide +kernel
theorem dX1_ways_39 : decode cX1_ways 39 = .ok (.if_icmp .ge 46, 3) := by decide +kernel
theorem dX1_ways_42 : decode cX1_ways 42 = .ok (.iload 5, 2) := by decide +kernel
theorem dX1_ways_44 : decode cX1_ways 44 = .ok (.bipush 12, 2) := by decide +kernel
theorem dX1_ways_46 : decode cX1_ways 46 = .ok (.if_icmp .ge 39, 3) := by decide +kernel
theorem dX1_ways_49 : decode cX1_ways 49 = .ok (.aload_n 0, 1) := by decide +kernel
theorem dX1_ways_50 : decode cX1_ways 50 = .ok (.getfield 7, 3) := by decide +kernel
theorem dX1_ways_53 : decode cX1_ways 53 = .ok (.iload 5, 2) := by decide +kernel
theorem dX1_ways_55 : decode cX1_ways 55 = .ok (.iaload, 1) := by decide +kernel
theorem dX1_ways_56 : decode cX1_ways 56 = .ok (.iload_n 1, 1) := by decide +kernel
theorem dX1_ways_57 : decode cX1_ways 57 = .ok (.if_icmp .ne 22, 3) := by decide +kernel
theorem dX1_ways_60 : decode cX1_ways 60 = .ok (.aload_n 0, 1) := by decide +kernel
theorem dX1_ways_61 : decode cX1_ways 61 = .ok (.aload_n 0, 1) := by decide +kernel
theorem dX1_ways_62 : decode cX1_ways 62 = .ok (.getfield 13, 3) := by decide +kernel
theorem dX1_ways_65 : decode cX1_ways 65 = .ok (.iload 5, 2) := by decide +kernel
theorem dX1_ways_67 : decode cX1_ways 67 = .ok (.iaload, 1) := by decide +kernel
theorem dX1_ways_68 : decode cX1_ways 68 = .ok (.iload_n 2, 1) := by decide +kernel
theorem dX1_ways_69 : decode cX1_ways 69 = .ok (.iload_n 3, 1) := by decide +kernel
theorem dX1_ways_70 : decode cX1_ways 70 = .ok (.invokevirtual 45, 3) := by decide +kernel
theorem dX1_ways_73 : decode cX1_ways 73 = .ok (.ifCond .eq 6, 3) := by decide +kernel
theorem dX1_ways_76 : decode cX1_ways 76 = .ok (.iinc 4 1, 3) := by decide +kernel
theorem dX1_ways_79 : decode cX1_ways 79 = .ok (.iinc 5 1, 3) := by decide +kernel
theorem dX1_ways_82 : decode cX1_ways 82 = .ok (.goto (-49), 3) := by decide +kernel
theorem dX1_ways_85 : decode cX1_ways 85 = .ok (.iload 4, 2) := by decide +kernel
theorem dX1_ways_87 : decode cX1_ways 87 = .ok (.ireturn, 1) := by decide +kernel
abbrev cX1_nextLetter : ByteArray := prog_3_method_28_code
def yX1_nextLetter : MethodName := ⟨RX1, "nextLetter", "()I"⟩
theorem dX1_nextLetter_0 : decode cX1_nextLetter 0 = .ok (.aload_n 0, 1) := by decide +kernel
theorem dX1_nextLetter_1 : decode cX1_nextLetter 1 = .ok (.getfield 34, 3) := by decide +kernel
theorem dX1_nextLetter_4 : decode cX1_nextLetter 4 = .ok (.bipush 7, 2) := by decide +kernel
theorem dX1_nextLetter_6 : decode cX1_nextLetter 6 = .ok (.if_icmp .le 5, 3) := by decide +kernel
theorem dX1_nextLetter_9 : decode cX1_nextLetter 9 = .ok (.iconst (-1), 1) := by decide +kernel
theorem dX1_nextLetter_10 : decode cX1_nextLetter 10 = .ok (.ireturn, 1) := by decide +kernel
theorem dX1_nextLetter_11 : decode cX1_nextLetter 11 = .ok (.iconst 0, 1) := by decide +kernel
theorem dX1_nextLetter_12 : decode cX1_nextLetter 12 = .ok (.istore_n 1, 1) := by decide +kernel
theorem dX1_nextLetter_13 : decode cX1_nextLetter 13 = .ok (.bipush 7, 2) := by decide +kernel
theorem dX1_nextLetter_15 : decode cX1_nextLetter 15 = .ok (.istore_n 2, 1) := by decide +kernel
theorem dX1_nextLetter_16 : decode cX1_nextLetter 16 = .ok (.iload_n 2, 1) := by decide +kernel
theorem dX1_nextLetter_17 : decode cX1_nextLetter 17 = .ok (.iconst 4, 1) := by decide +kernel
theorem dX1_nextLetter_18 : decode cX1_nextLetter 18 = .ok (.if_icmp .le 58, 3) := by decide +kernel
theorem dX1_nextLetter_21 : decode cX1_nextLetter 21 = .ok (.aload_n 0, 1) := by decide +kernel
theorem dX1_nextLetter_22 : decode cX1_nextLetter 22 = .ok (.getfield 16, 3) := by decide +kernel
theorem dX1_nextLetter_25 : decode cX1_nextLetter 25 = .ok (.aload_n 0, 1) := by decide +kernel
theorem dX1_nextLetter_26 : decode cX1_nextLetter 26 = .ok (.getfield 34, 3) := by decide +kernel
theorem dX1_nextLetter_29 : decode cX1_nextLetter 29 = .ok (.iload_n 2, 1) := by decide +kernel
theorem dX1_nextLetter_30 : decode cX1_nextLetter 30 = .ok (.iastore, 1) := by decide +kernel
theorem dX1_nextLetter_31 : decode cX1_nextLetter 31 = .ok (.aload_n 0, 1) := by decide +kernel
theorem dX1_nextLetter_32 : decode cX1_nextLetter 32 = .ok (.dup, 1) := by decide +kernel
theorem dX1_nextLetter_33 : decode cX1_nextLetter 33 = .ok (.getfield 34, 3) := by decide +kernel
theorem dX1_nextLetter_36 : decode cX1_nextLetter 36 = .ok (.iconst 1, 1) := by decide +kernel
theorem dX1_nextLetter_37 : decode cX1_nextLetter 37 = .ok (.iadd, 1) := by decide +kernel
theorem dX1_nextLetter_38 : decode cX1_nextLetter 38 = .ok (.putfield 34, 3) := by decide +kernel
theorem dX1_nextLetter_41 : decode cX1_nextLetter 41 = .ok (.aload_n 0, 1) := by decide +kernel
theorem dX1_nextLetter_42 : decode cX1_nextLetter 42 = .ok (.invokevirtual 55, 3) := by decide +kernel
theorem dX1_nextLetter_45 : decode cX1_nextLetter 45 = .ok (.aload_n 0, 1) := by decide +kernel
theorem dX1_nextLetter_46 : decode cX1_nextLetter 46 = .ok (.iconst 0, 1) := by decide +kernel
theorem dX1_nextLetter_47 : decode cX1_nextLetter 47 = .ok (.iconst 0, 1) := by decide +kernel
theorem dX1_nextLetter_48 : decode cX1_nextLetter 48 = .ok (.aload_n 0, 1) := by decide +kernel
theorem dX1_nextLetter_49 : decode cX1_nextLetter 49 = .ok (.getfield 34, 3) := by decide +kernel
theorem dX1_nextLetter_52 : decode cX1_nextLetter 52 = .ok (.invokevirtual 37, 3) := by decide +kernel
theorem dX1_nextLetter_55 : decode cX1_nextLetter 55 = .ok (.ifCond .eq 5, 3) := by decide +kernel
theorem dX1_nextLetter_58 : decode cX1_nextLetter 58 = .ok (.iload_n 2, 1) := by decide +kernel
theorem dX1_nextLetter_59 : decode cX1_nextLetter 59 = .ok (.istore_n 1, 1) := by decide +kernel
theorem dX1_nextLetter_60 : decode cX1_nextLetter 60 = .ok (.aload_n 0, 1) := by decide +kernel
theorem dX1_nextLetter_61 : decode cX1_nextLetter 61 = .ok (.dup, 1) := by decide +kernel
theorem dX1_nextLetter_62 : decode cX1_nextLetter 62 = .ok (.getfield 34, 3) := by decide +kernel
theorem dX1_nextLetter_65 : decode cX1_nextLetter 65 = .ok (.iconst 1, 1) := by decide +kernel
theorem dX1_nextLetter_66 : decode cX1_nextLetter 66 = .ok (.isub, 1) := by decide +kernel
theorem dX1_nextLetter_67 : decode cX1_nextLetter 67 = .ok (.putfield 34, 3) := by decide +kernel
theorem dX1_nextLetter_70 : decode cX1_nextLetter 70 = .ok (.iinc 2 (-1), 3) := by decide +kernel
theorem dX1_nextLetter_73 : decode cX1_nextLetter 73 = .ok (.goto (-57), 3) := by decide +kernel
theorem dX1_nextLetter_76 : decode cX1_nextLetter 76 = .ok (.iload_n 1, 1) := by decide +kernel
theorem dX1_nextLetter_77 : decode cX1_nextLetter 77 = .ok (.ireturn, 1) := by decide +kernel
theorem q24 : (Jvm.Cond.initialized "GllRecogniserModel") ∈ lw_all := lw_g (lw_at lw_m1 2 rfl) rfl
theorem q198 : (Jvm.Cond.instantiable "GllRecogniserModel" (6 : Nat)) ∈ lw_all := lw_g (lw_at lw_m1 176 rfl) rfl
theorem q200 : (Jvm.Cond.instanceMethod ({ cls := "GllRecogniserModel", name := "<init>", desc := "()V" } : Jvm.MethodName)) ∈ lw_all := lw_g (lw_at lw_m1 178 rfl) rfl
theorem q201 : (Jvm.Cond.code ({ cls := "GllRecogniserModel", name := "<init>", desc := "()V" } : Jvm.MethodName) prog_3_method_1_code (1 : Nat) (Option.none : Option Jvm.ClassFile.FieldType)) ∈ lw_all := lw_g (lw_at lw_m1 179 rfl) rfl
theorem q202 : (Jvm.Cond.methodLink "GllRecogniserModel" (1 : Nat) ({ cls := "java/lang/Object", name := "<init>", desc := "()V" } : Jvm.MethodName)) ∈ lw_all := lw_g (lw_at lw_m1 180 rfl) rfl
theorem q203 : (Jvm.Cond.fieldLink "GllRecogniserModel" (27 : Nat) "GllRecogniserModel" "count" "I") ∈ lw_all := lw_g (lw_at lw_m1 181 rfl) rfl
theorem q204 : (Jvm.Cond.fieldLink "GllRecogniserModel" (7 : Nat) "GllRecogniserModel" "left" "[I") ∈ lw_all := lw_g (lw_at lw_m1 182 rfl) rfl
theorem q205 : (Jvm.Cond.fieldLink "GllRecogniserModel" (13 : Nat) "GllRecogniserModel" "right" "[I") ∈ lw_all := lw_g (lw_at lw_m1 183 rfl) rfl
theorem q206 : (Jvm.Cond.fieldLink "GllRecogniserModel" (34 : Nat) "GllRecogniserModel" "length" "I") ∈ lw_all := lw_g (lw_at lw_m1 184 rfl) rfl
theorem q207 : (Jvm.Cond.fieldLink "GllRecogniserModel" (16 : Nat) "GllRecogniserModel" "text" "[I") ∈ lw_all := lw_g (lw_at lw_m1 185 rfl) rfl
theorem q208 : (Jvm.Cond.fieldLink "GllRecogniserModel" (19 : Nat) "GllRecogniserModel" "table" "[Z") ∈ lw_all := lw_g (lw_at lw_m1 186 rfl) rfl
theorem q209 : (Jvm.Cond.lays "GllRecogniserModel" "GllRecogniserModel" "count" "I") ∈ lw_all := lw_g (lw_at lw_m1 187 rfl) rfl
theorem q210 : (Jvm.Cond.soleField "GllRecogniserModel" "count") ∈ lw_all := lw_g (lw_at lw_m1 188 rfl) rfl
theorem q211 : (Jvm.Cond.lays "GllRecogniserModel" "GllRecogniserModel" "left" "[I") ∈ lw_all := lw_g (lw_at lw_m1 189 rfl) rfl
theorem q212 : (Jvm.Cond.soleField "GllRecogniserModel" "left") ∈ lw_all := lw_g (lw_at lw_m1 190 rfl) rfl
theorem q213 : (Jvm.Cond.lays "GllRecogniserModel" "GllRecogniserModel" "right" "[I") ∈ lw_all := lw_g (lw_at lw_m1 191 rfl) rfl
theorem q214 : (Jvm.Cond.soleField "GllRecogniserModel" "right") ∈ lw_all := lw_g (lw_at lw_m1 192 rfl) rfl
theorem q215 : (Jvm.Cond.lays "GllRecogniserModel" "GllRecogniserModel" "length" "I") ∈ lw_all := lw_g (lw_at lw_m1 193 rfl) rfl
theorem q216 : (Jvm.Cond.soleField "GllRecogniserModel" "length") ∈ lw_all := lw_g (lw_at lw_m1 194 rfl) rfl
theorem q217 : (Jvm.Cond.lays "GllRecogniserModel" "GllRecogniserModel" "text" "[I") ∈ lw_all := lw_g (lw_at lw_m1 195 rfl) rfl
theorem q218 : (Jvm.Cond.soleField "GllRecogniserModel" "text") ∈ lw_all := lw_g (lw_at lw_m1 196 rfl) rfl
theorem q219 : (Jvm.Cond.lays "GllRecogniserModel" "GllRecogniserModel" "table" "[Z") ∈ lw_all := lw_g (lw_at lw_m1 197 rfl) rfl
theorem q220 : (Jvm.Cond.soleField "GllRecogniserModel" "table") ∈ lw_all := lw_g (lw_at lw_m1 198 rfl) rfl
theorem q221 : (Jvm.Cond.superclass "GllRecogniserModel" "java/lang/Object") ∈ lw_all := lw_g (lw_at lw_m1 199 rfl) rfl
theorem q223 : (Jvm.Cond.instanceMethod ({ cls := "GllRecogniserModel", name := "rule", desc := "(II)I" } : Jvm.MethodName)) ∈ lw_all := lw_g (lw_at lw_m1 201 rfl) rfl
theorem q224 : (Jvm.Cond.selects "GllRecogniserModel" ({ cls := "GllRecogniserModel", name := "rule", desc := "(II)I" } : Jvm.MethodName) ({ cls := "GllRecogniserModel", name := "rule", desc := "(II)I" } : Jvm.MethodName)) ∈ lw_all := lw_g (lw_at lw_m1 202 rfl) rfl
theorem q225 : (Jvm.Cond.code ({ cls := "GllRecogniserModel", name := "rule", desc := "(II)I" } : Jvm.MethodName) prog_3_method_3_code (4 : Nat) (Option.some Jvm.ClassFile.FieldType.int)) ∈ lw_all := lw_g (lw_at lw_m1 203 rfl) rfl
theorem q226 : (Jvm.Cond.methodLink "GllRecogniserModel" (23 : Nat) ({ cls := "GllRecogniserModel", name := "badRow", desc := "(I)Z" } : Jvm.MethodName)) ∈ lw_all := lw_g (lw_at lw_m1 204 rfl) rfl
theorem q227 : (Jvm.Cond.privateMethod ({ cls := "GllRecogniserModel", name := "badRow", desc := "(I)Z" } : Jvm.MethodName)) ∈ lw_tbl := lw_at lw_m1 205 rfl
theorem q228 : (Jvm.Cond.instanceMethod ({ cls := "GllRecogniserModel", name := "badRow", desc := "(I)Z" } : Jvm.MethodName)) ∈ lw_all := lw_g (lw_at lw_m1 206 rfl) rfl
theorem q229 : (Jvm.Cond.code ({ cls := "GllRecogniserModel", name := "badRow", desc := "(I)Z" } : Jvm.MethodName) prog_3_method_2_code (2 : Nat) (Option.some Jvm.ClassFile.FieldType.boolean)) ∈ lw_all := lw_g (lw_at lw_m1 207 rfl) rfl
theorem q231 : (Jvm.Cond.instanceMethod ({ cls := "GllRecogniserModel", name := "drop", desc := "(I)I" } : Jvm.MethodName)) ∈ lw_all := lw_g (lw_at lw_m1 209 rfl) rfl
theorem q232 : (Jvm.Cond.selects "GllRecogniserModel" ({ cls := "GllRecogniserModel", name := "drop", desc := "(I)I" } : Jvm.MethodName) ({ cls := "GllRecogniserModel", name := "drop", desc := "(I)I" } : Jvm.MethodName)) ∈ lw_all := lw_g (lw_at lw_m1 210 rfl) rfl
theorem q233 : (Jvm.Cond.code ({ cls := "GllRecogniserModel", name := "drop", desc := "(I)I" } : Jvm.MethodName) prog_3_method_5_code (3 : Nat) (Option.some Jvm.ClassFile.FieldType.int)) ∈ lw_all := lw_g (lw_at lw_m1 211 rfl) rfl
theorem q234 : (Jvm.Cond.methodLink "GllRecogniserModel" (31 : Nat) ({ cls := "GllRecogniserModel", name := "badRule", desc := "(I)Z" } : Jvm.MethodName)) ∈ lw_all := lw_g (lw_at lw_m1 212 rfl) rfl
theorem q235 : (Jvm.Cond.privateMethod ({ cls := "GllRecogniserModel", name := "badRule", desc := "(I)Z" } : Jvm.MethodName)) ∈ lw_tbl := lw_at lw_m1 213 rfl
theorem q236 : (Jvm.Cond.instanceMethod ({ cls := "GllRecogniserModel", name := "badRule", desc := "(I)Z" } : Jvm.MethodName)) ∈ lw_all := lw_g (lw_at lw_m1 214 rfl) rfl
theorem q237 : (Jvm.Cond.code ({ cls := "GllRecogniserModel", name := "badRule", desc := "(I)Z" } : Jvm.MethodName) prog_3_method_4_code (2 : Nat) (Option.some Jvm.ClassFile.FieldType.boolean)) ∈ lw_all := lw_g (lw_at lw_m1 215 rfl) rfl
theorem q239 : (Jvm.Cond.instanceMethod ({ cls := "GllRecogniserModel", name := "clear", desc := "()I" } : Jvm.MethodName)) ∈ lw_all := lw_g (lw_at lw_m1 217 rfl) rfl
theorem q240 : (Jvm.Cond.selects "GllRecogniserModel" ({ cls := "GllRecogniserModel", name := "clear", desc := "()I" } : Jvm.MethodName) ({ cls := "GllRecogniserModel", name := "clear", desc := "()I" } : Jvm.MethodName)) ∈ lw_all := lw_g (lw_at lw_m1 218 rfl) rfl
theorem q241 : (Jvm.Cond.code ({ cls := "GllRecogniserModel", name := "clear", desc := "()I" } : Jvm.MethodName) prog_3_method_6_code (2 : Nat) (Option.some Jvm.ClassFile.FieldType.int)) ∈ lw_all := lw_g (lw_at lw_m1 219 rfl) rfl
theorem q243 : (Jvm.Cond.instanceMethod ({ cls := "GllRecogniserModel", name := "rules", desc := "()I" } : Jvm.MethodName)) ∈ lw_all := lw_g (lw_at lw_m1 221 rfl) rfl
theorem q244 : (Jvm.Cond.selects "GllRecogniserModel" ({ cls := "GllRecogniserModel", name := "rules", desc := "()I" } : Jvm.MethodName) ({ cls := "GllRecogniserModel", name := "rules", desc := "()I" } : Jvm.MethodName)) ∈ lw_all := lw_g (lw_at lw_m1 222 rfl) rfl
theorem q245 : (Jvm.Cond.code ({ cls := "GllRecogniserModel", name := "rules", desc := "()I" } : Jvm.MethodName) prog_3_method_7_code (1 : Nat) (Option.some Jvm.ClassFile.FieldType.int)) ∈ lw_all := lw_g (lw_at lw_m1 223 rfl) rfl
theorem q247 : (Jvm.Cond.instanceMethod ({ cls := "GllRecogniserModel", name := "push", desc := "(I)I" } : Jvm.MethodName)) ∈ lw_all := lw_g (lw_at lw_m1 225 rfl) rfl
theorem q248 : (Jvm.Cond.selects "GllRecogniserModel" ({ cls := "GllRecogniserModel", name := "push", desc := "(I)I" } : Jvm.MethodName) ({ cls := "GllRecogniserModel", name := "push", desc := "(I)I" } : Jvm.MethodName)) ∈ lw_all := lw_g (lw_at lw_m1 226 rfl) rfl
theorem q249 : (Jvm.Cond.code ({ cls := "GllRecogniserModel", name := "push", desc := "(I)I" } : Jvm.MethodName) prog_3_method_8_code (2 : Nat) (Option.some Jvm.ClassFile.FieldType.int)) ∈ lw_all := lw_g (lw_at lw_m1 227 rfl) rfl
theorem q251 : (Jvm.Cond.instanceMethod ({ cls := "GllRecogniserModel", name := "pop", desc := "()I" } : Jvm.MethodName)) ∈ lw_all := lw_g (lw_at lw_m1 229 rfl) rfl
theorem q252 : (Jvm.Cond.selects "GllRecogniserModel" ({ cls := "GllRecogniserModel", name := "pop", desc := "()I" } : Jvm.MethodName) ({ cls := "GllRecogniserModel", name := "pop", desc := "()I" } : Jvm.MethodName)) ∈ lw_all := lw_g (lw_at lw_m1 230 rfl) rfl
theorem q253 : (Jvm.Cond.code ({ cls := "GllRecogniserModel", name := "pop", desc := "()I" } : Jvm.MethodName) prog_3_method_9_code (1 : Nat) (Option.some Jvm.ClassFile.FieldType.int)) ∈ lw_all := lw_g (lw_at lw_m1 231 rfl) rfl
theorem q255 : (Jvm.Cond.instanceMethod ({ cls := "GllRecogniserModel", name := "write", desc := "(II)I" } : Jvm.MethodName)) ∈ lw_all := lw_g (lw_at lw_m1 233 rfl) rfl
theorem q256 : (Jvm.Cond.selects "GllRecogniserModel" ({ cls := "GllRecogniserModel", name := "write", desc := "(II)I" } : Jvm.MethodName) ({ cls := "GllRecogniserModel", name := "write", desc := "(II)I" } : Jvm.MethodName)) ∈ lw_all := lw_g (lw_at lw_m1 234 rfl) rfl
theorem q257 : (Jvm.Cond.code ({ cls := "GllRecogniserModel", name := "write", desc := "(II)I" } : Jvm.MethodName) prog_3_method_10_code (6 : Nat) (Option.some Jvm.ClassFile.FieldType.int)) ∈ lw_all := lw_g (lw_at lw_m1 235 rfl) rfl
theorem q259 : (Jvm.Cond.instanceMethod ({ cls := "GllRecogniserModel", name := "length", desc := "()I" } : Jvm.MethodName)) ∈ lw_all := lw_g (lw_at lw_m1 237 rfl) rfl
theorem q260 : (Jvm.Cond.selects "GllRecogniserModel" ({ cls := "GllRecogniserModel", name := "length", desc := "()I" } : Jvm.MethodName) ({ cls := "GllRecogniserModel", name := "length", desc := "()I" } : Jvm.MethodName)) ∈ lw_all := lw_g (lw_at lw_m1 238 rfl) rfl
theorem q261 : (Jvm.Cond.code ({ cls := "GllRecogniserModel", name := "length", desc := "()I" } : Jvm.MethodName) prog_3_method_11_code (1 : Nat) (Option.some Jvm.ClassFile.FieldType.int)) ∈ lw_all := lw_g (lw_at lw_m1 239 rfl) rfl
theorem q263 : (Jvm.Cond.instanceMethod ({ cls := "GllRecogniserModel", name := "accepts", desc := "()I" } : Jvm.MethodName)) ∈ lw_all := lw_g (lw_at lw_m2 1 rfl) rfl
theorem q264 : (Jvm.Cond.selects "GllRecogniserModel" ({ cls := "GllRecogniserModel", name := "accepts", desc := "()I" } : Jvm.MethodName) ({ cls := "GllRecogniserModel", name := "accepts", desc := "()I" } : Jvm.MethodName)) ∈ lw_all := lw_g (lw_at lw_m2 2 rfl) rfl
theorem q265 : (Jvm.Cond.code ({ cls := "GllRecogniserModel", name := "accepts", desc := "()I" } : Jvm.MethodName) prog_3_method_18_code (1 : Nat) (Option.some Jvm.ClassFile.FieldType.int)) ∈ lw_all := lw_g (lw_at lw_m2 3 rfl) rfl
theorem q266 : (Jvm.Cond.methodLink "GllRecogniserModel" (55 : Nat) ({ cls := "GllRecogniserModel", name := "work", desc := "()V" } : Jvm.MethodName)) ∈ lw_all := lw_g (lw_at lw_m2 4 rfl) rfl
theorem q267 : (Jvm.Cond.privateMethod ({ cls := "GllRecogniserModel", name := "work", desc := "()V" } : Jvm.MethodName)) ∈ lw_tbl := lw_at lw_m2 5 rfl
theorem q268 : (Jvm.Cond.instanceMethod ({ cls := "GllRecogniserModel", name := "work", desc := "()V" } : Jvm.MethodName)) ∈ lw_all := lw_g (lw_at lw_m2 6 rfl) rfl
theorem q269 : (Jvm.Cond.code ({ cls := "GllRecogniserModel", name := "work", desc := "()V" } : Jvm.MethodName) prog_3_method_17_code (3 : Nat) (Option.none : Option Jvm.ClassFile.FieldType)) ∈ lw_all := lw_g (lw_at lw_m2 7 rfl) rfl
theorem q270 : (Jvm.Cond.methodLink "GllRecogniserModel" (51 : Nat) ({ cls := "GllRecogniserModel", name := "fillAll", desc := "()Z" } : Jvm.MethodName)) ∈ lw_all := lw_g (lw_at lw_m2 8 rfl) rfl
theorem q271 : (Jvm.Cond.privateMethod ({ cls := "GllRecogniserModel", name := "fillAll", desc := "()Z" } : Jvm.MethodName)) ∈ lw_tbl := lw_at lw_m2 9 rfl
theorem q272 : (Jvm.Cond.instanceMethod ({ cls := "GllRecogniserModel", name := "fillAll", desc := "()Z" } : Jvm.MethodName)) ∈ lw_all := lw_g (lw_at lw_m2 10 rfl) rfl
theorem q273 : (Jvm.Cond.code ({ cls := "GllRecogniserModel", name := "fillAll", desc := "()Z" } : Jvm.MethodName) prog_3_method_16_code (3 : Nat) (Option.some Jvm.ClassFile.FieldType.boolean)) ∈ lw_all := lw_g (lw_at lw_m2 11 rfl) rfl
theorem q274 : (Jvm.Cond.methodLink "GllRecogniserModel" (48 : Nat) ({ cls := "GllRecogniserModel", name := "fill", desc := "(I)Z" } : Jvm.MethodName)) ∈ lw_all := lw_g (lw_at lw_m2 12 rfl) rfl
theorem q275 : (Jvm.Cond.privateMethod ({ cls := "GllRecogniserModel", name := "fill", desc := "(I)Z" } : Jvm.MethodName)) ∈ lw_tbl := lw_at lw_m2 13 rfl
theorem q276 : (Jvm.Cond.instanceMethod ({ cls := "GllRecogniserModel", name := "fill", desc := "(I)Z" } : Jvm.MethodName)) ∈ lw_all := lw_g (lw_at lw_m2 14 rfl) rfl
theorem q277 : (Jvm.Cond.code ({ cls := "GllRecogniserModel", name := "fill", desc := "(I)Z" } : Jvm.MethodName) prog_3_method_15_code (6 : Nat) (Option.some Jvm.ClassFile.FieldType.boolean)) ∈ lw_all := lw_g (lw_at lw_m2 15 rfl) rfl
theorem q278 : (Jvm.Cond.methodLink "GllRecogniserModel" (45 : Nat) ({ cls := "GllRecogniserModel", name := "rowFits", desc := "(III)Z" } : Jvm.MethodName)) ∈ lw_all := lw_g (lw_at lw_m2 16 rfl) rfl
theorem q279 : (Jvm.Cond.privateMethod ({ cls := "GllRecogniserModel", name := "rowFits", desc := "(III)Z" } : Jvm.MethodName)) ∈ lw_tbl := lw_at lw_m2 17 rfl
theorem q280 : (Jvm.Cond.instanceMethod ({ cls := "GllRecogniserModel", name := "rowFits", desc := "(III)Z" } : Jvm.MethodName)) ∈ lw_all := lw_g (lw_at lw_m2 18 rfl) rfl
theorem q281 : (Jvm.Cond.code ({ cls := "GllRecogniserModel", name := "rowFits", desc := "(III)Z" } : Jvm.MethodName) prog_3_method_14_code (8 : Nat) (Option.some Jvm.ClassFile.FieldType.boolean)) ∈ lw_all := lw_g (lw_at lw_m2 19 rfl) rfl
theorem q282 : (Jvm.Cond.methodLink "GllRecogniserModel" (37 : Nat) ({ cls := "GllRecogniserModel", name := "signFits", desc := "(III)Z" } : Jvm.MethodName)) ∈ lw_all := lw_g (lw_at lw_m2 20 rfl) rfl
theorem q283 : (Jvm.Cond.privateMethod ({ cls := "GllRecogniserModel", name := "signFits", desc := "(III)Z" } : Jvm.MethodName)) ∈ lw_tbl := lw_at lw_m2 21 rfl
theorem q284 : (Jvm.Cond.instanceMethod ({ cls := "GllRecogniserModel", name := "signFits", desc := "(III)Z" } : Jvm.MethodName)) ∈ lw_all := lw_g (lw_at lw_m2 22 rfl) rfl
theorem q285 : (Jvm.Cond.code ({ cls := "GllRecogniserModel", name := "signFits", desc := "(III)Z" } : Jvm.MethodName) prog_3_method_12_code (4 : Nat) (Option.some Jvm.ClassFile.FieldType.boolean)) ∈ lw_all := lw_g (lw_at lw_m2 23 rfl) rfl
theorem q286 : (Jvm.Cond.methodLink "GllRecogniserModel" (41 : Nat) ({ cls := "GllRecogniserModel", name := "twoFit", desc := "(IIII)Z" } : Jvm.MethodName)) ∈ lw_all := lw_g (lw_at lw_m2 24 rfl) rfl
theorem q287 : (Jvm.Cond.privateMethod ({ cls := "GllRecogniserModel", name := "twoFit", desc := "(IIII)Z" } : Jvm.MethodName)) ∈ lw_tbl := lw_at lw_m2 25 rfl
theorem q288 : (Jvm.Cond.instanceMethod ({ cls := "GllRecogniserModel", name := "twoFit", desc := "(IIII)Z" } : Jvm.MethodName)) ∈ lw_all := lw_g (lw_at lw_m2 26 rfl) rfl
theorem q289 : (Jvm.Cond.code ({ cls := "GllRecogniserModel", name := "twoFit", desc := "(IIII)Z" } : Jvm.MethodName) prog_3_method_13_code (6 : Nat) (Option.some Jvm.ClassFile.FieldType.boolean)) ∈ lw_all := lw_g (lw_at lw_m2 27 rfl) rfl
theorem q291 : (Jvm.Cond.instanceMethod ({ cls := "GllRecogniserModel", name := "fits", desc := "(III)I" } : Jvm.MethodName)) ∈ lw_all := lw_g (lw_at lw_m2 29 rfl) rfl
theorem q292 : (Jvm.Cond.selects "GllRecogniserModel" ({ cls := "GllRecogniserModel", name := "fits", desc := "(III)I" } : Jvm.MethodName) ({ cls := "GllRecogniserModel", name := "fits", desc := "(III)I" } : Jvm.MethodName)) ∈ lw_all := lw_g (lw_at lw_m2 30 rfl) rfl
theorem q293 : (Jvm.Cond.code ({ cls := "GllRecogniserModel", name := "fits", desc := "(III)I" } : Jvm.MethodName) prog_3_method_21_code (4 : Nat) (Option.some Jvm.ClassFile.FieldType.int)) ∈ lw_all := lw_g (lw_at lw_m2 31 rfl) rfl
theorem q294 : (Jvm.Cond.methodLink "GllRecogniserModel" (58 : Nat) ({ cls := "GllRecogniserModel", name := "badSign", desc := "(I)Z" } : Jvm.MethodName)) ∈ lw_all := lw_g (lw_at lw_m2 32 rfl) rfl
theorem q295 : (Jvm.Cond.privateMethod ({ cls := "GllRecogniserModel", name := "badSign", desc := "(I)Z" } : Jvm.MethodName)) ∈ lw_tbl := lw_at lw_m2 33 rfl
theorem q296 : (Jvm.Cond.instanceMethod ({ cls := "GllRecogniserModel", name := "badSign", desc := "(I)Z" } : Jvm.MethodName)) ∈ lw_all := lw_g (lw_at lw_m2 34 rfl) rfl
theorem q297 : (Jvm.Cond.code ({ cls := "GllRecogniserModel", name := "badSign", desc := "(I)Z" } : Jvm.MethodName) prog_3_method_19_code (2 : Nat) (Option.some Jvm.ClassFile.FieldType.boolean)) ∈ lw_all := lw_g (lw_at lw_m2 35 rfl) rfl
theorem q298 : (Jvm.Cond.methodLink "GllRecogniserModel" (61 : Nat) ({ cls := "GllRecogniserModel", name := "badStretch", desc := "(II)Z" } : Jvm.MethodName)) ∈ lw_all := lw_g (lw_at lw_m2 36 rfl) rfl
theorem q299 : (Jvm.Cond.privateMethod ({ cls := "GllRecogniserModel", name := "badStretch", desc := "(II)Z" } : Jvm.MethodName)) ∈ lw_tbl := lw_at lw_m2 37 rfl
theorem q300 : (Jvm.Cond.instanceMethod ({ cls := "GllRecogniserModel", name := "badStretch", desc := "(II)Z" } : Jvm.MethodName)) ∈ lw_all := lw_g (lw_at lw_m2 38 rfl) rfl
theorem q301 : (Jvm.Cond.code ({ cls := "GllRecogniserModel", name := "badStretch", desc := "(II)Z" } : Jvm.MethodName) prog_3_method_20_code (3 : Nat) (Option.some Jvm.ClassFile.FieldType.boolean)) ∈ lw_all := lw_g (lw_at lw_m2 39 rfl) rfl
theorem q303 : (Jvm.Cond.instanceMethod ({ cls := "GllRecogniserModel", name := "ends", desc := "(II)I" } : Jvm.MethodName)) ∈ lw_all := lw_g (lw_at lw_m2 41 rfl) rfl
theorem q304 : (Jvm.Cond.selects "GllRecogniserModel" ({ cls := "GllRecogniserModel", name := "ends", desc := "(II)I" } : Jvm.MethodName) ({ cls := "GllRecogniserModel", name := "ends", desc := "(II)I" } : Jvm.MethodName)) ∈ lw_all := lw_g (lw_at lw_m2 42 rfl) rfl
theorem q305 : (Jvm.Cond.code ({ cls := "GllRecogniserModel", name := "ends", desc := "(II)I" } : Jvm.MethodName) prog_3_method_22_code (5 : Nat) (Option.some Jvm.ClassFile.FieldType.int)) ∈ lw_all := lw_g (lw_at lw_m2 43 rfl) rfl
theorem q307 : (Jvm.Cond.instanceMethod ({ cls := "GllRecogniserModel", name := "ruleFits", desc := "(III)I" } : Jvm.MethodName)) ∈ lw_all := lw_g (lw_at lw_m2 45 rfl) rfl
theorem q308 : (Jvm.Cond.selects "GllRecogniserModel" ({ cls := "GllRecogniserModel", name := "ruleFits", desc := "(III)I" } : Jvm.MethodName) ({ cls := "GllRecogniserModel", name := "ruleFits", desc := "(III)I" } : Jvm.MethodName)) ∈ lw_all := lw_g (lw_at lw_m2 46 rfl) rfl
theorem q309 : (Jvm.Cond.code ({ cls := "GllRecogniserModel", name := "ruleFits", desc := "(III)I" } : Jvm.MethodName) prog_3_method_23_code (4 : Nat) (Option.some Jvm.ClassFile.FieldType.int)) ∈ lw_all := lw_g (lw_at lw_m2 47 rfl) rfl
theorem q311 : (Jvm.Cond.instanceMethod ({ cls := "GllRecogniserModel", name := "stretches", desc := "(I)I" } : Jvm.MethodName)) ∈ lw_all := lw_g (lw_at lw_m2 49 rfl) rfl
theorem q312 : (Jvm.Cond.selects "GllRecogniserModel" ({ cls := "GllRecogniserModel", name := "stretches", desc := "(I)I" } : Jvm.MethodName) ({ cls := "GllRecogniserModel", name := "stretches", desc := "(I)I" } : Jvm.MethodName)) ∈ lw_all := lw_g (lw_at lw_m2 50 rfl) rfl
theorem q313 : (Jvm.Cond.code ({ cls := "GllRecogniserModel", name := "stretches", desc := "(I)I" } : Jvm.MethodName) prog_3_method_24_code (5 : Nat) (Option.some Jvm.ClassFile.FieldType.int)) ∈ lw_all := lw_g (lw_at lw_m2 51 rfl) rfl
theorem q315 : (Jvm.Cond.instanceMethod ({ cls := "GllRecogniserModel", name := "longest", desc := "(I)I" } : Jvm.MethodName)) ∈ lw_all := lw_g (lw_at lw_m2 53 rfl) rfl
theorem q316 : (Jvm.Cond.selects "GllRecogniserModel" ({ cls := "GllRecogniserModel", name := "longest", desc := "(I)I" } : Jvm.MethodName) ({ cls := "GllRecogniserModel", name := "longest", desc := "(I)I" } : Jvm.MethodName)) ∈ lw_all := lw_g (lw_at lw_m2 54 rfl) rfl
theorem q317 : (Jvm.Cond.code ({ cls := "GllRecogniserModel", name := "longest", desc := "(I)I" } : Jvm.MethodName) prog_3_method_25_code (5 : Nat) (Option.some Jvm.ClassFile.FieldType.int)) ∈ lw_all := lw_g (lw_at lw_m2 55 rfl) rfl
theorem q319 : (Jvm.Cond.instanceMethod ({ cls := "GllRecogniserModel", name := "empty", desc := "(I)I" } : Jvm.MethodName)) ∈ lw_all := lw_g (lw_at lw_m2 57 rfl) rfl
theorem q320 : (Jvm.Cond.selects "GllRecogniserModel" ({ cls := "GllRecogniserModel", name := "empty", desc := "(I)I" } : Jvm.MethodName) ({ cls := "GllRecogniserModel", name := "empty", desc := "(I)I" } : Jvm.MethodName)) ∈ lw_all := lw_g (lw_at lw_m2 58 rfl) rfl
theorem q321 : (Jvm.Cond.code ({ cls := "GllRecogniserModel", name := "empty", desc := "(I)I" } : Jvm.MethodName) prog_3_method_26_code (2 : Nat) (Option.some Jvm.ClassFile.FieldType.int)) ∈ lw_all := lw_g (lw_at lw_m2 59 rfl) rfl
theorem q323 : (Jvm.Cond.instanceMethod ({ cls := "GllRecogniserModel", name := "ways", desc := "(III)I" } : Jvm.MethodName)) ∈ lw_all := lw_g (lw_at lw_m2 61 rfl) rfl
theorem q324 : (Jvm.Cond.selects "GllRecogniserModel" ({ cls := "GllRecogniserModel", name := "ways", desc := "(III)I" } : Jvm.MethodName) ({ cls := "GllRecogniserModel", name := "ways", desc := "(III)I" } : Jvm.MethodName)) ∈ lw_all := lw_g (lw_at lw_m2 62 rfl) rfl
theorem q325 : (Jvm.Cond.code ({ cls := "GllRecogniserModel", name := "ways", desc := "(III)I" } : Jvm.MethodName) prog_3_method_27_code (6 : Nat) (Option.some Jvm.ClassFile.FieldType.int)) ∈ lw_all := lw_g (lw_at lw_m2 63 rfl) rfl
theorem q327 : (Jvm.Cond.instanceMethod ({ cls := "GllRecogniserModel", name := "nextLetter", desc := "()I" } : Jvm.MethodName)) ∈ lw_all := lw_g (lw_at lw_m2 65 rfl) rfl
theorem q328 : (Jvm.Cond.selects "GllRecogniserModel" ({ cls := "GllRecogniserModel", name := "nextLetter", desc := "()I" } : Jvm.MethodName) ({ cls := "GllRecogniserModel", name := "nextLetter", desc := "()I" } : Jvm.MethodName)) ∈ lw_all := lw_g (lw_at lw_m2 66 rfl) rfl
theorem q329 : (Jvm.Cond.code ({ cls := "GllRecogniserModel", name := "nextLetter", desc := "()I" } : Jvm.MethodName) prog_3_method_28_code (3 : Nat) (Option.some Jvm.ClassFile.FieldType.int)) ∈ lw_all := lw_g (lw_at lw_m2 67 rfl) rfl
theorem in_X1 : ∀ w ∈ wsX10, w ∈ lw_all := lw_in wsX10 [209, 211, 213, 215, 217, 219] (by decide +kernel) (by decide +kernel)
end
section
/-! the law's own entry -/
set_option maxRecDepth 100000
abbrev cL_law : ByteArray := code
theorem dL_law_0 : decode cL_law 0 = .ok (.new 7, 3) := by decide +kernel
theorem dL_law_3 : decode cL_law 3 = .ok (.dup, 1) := by decide +kernel
theorem dL_law_4 : decode cL_law 4 = .ok (.invokespecial 9, 3) := by decide +kernel
theorem dL_law_7 : decode cL_law 7 = .ok (.astore_n 1, 1) := by decide +kernel
theorem dL_law_8 : decode cL_law 8 = .ok (.new 10, 3) := by decide +kernel
theorem dL_law_11 : decode cL_law 11 = .ok (.dup, 1) := by decide +kernel
theorem dL_law_12 : decode cL_law 12 = .ok (.invokespecial 12, 3) := by decide +kernel
theorem dL_law_15 : decode cL_law 15 = .ok (.astore_n 2, 1) := by decide +kernel
theorem dL_law_16 : decode cL_law 16 = .ok (.iconst 0, 1) := by decide +kernel
theorem dL_law_17 : decode cL_law 17 = .ok (.istore_n 3, 1) := by decide +kernel
theorem dL_law_18 : decode cL_law 18 = .ok (.iload_n 3, 1) := by decide +kernel
theorem dL_law_19 : decode cL_law 19 = .ok (.aload_n 0, 1) := by decide +kernel
theorem dL_law_20 : decode cL_law 20 = .ok (.arraylength, 1) := by decide +kernel
theorem dL_law_21 : decode cL_law 21 = .ok (.iconst 4, 1) := by decide +kernel
theorem dL_law_22 : decode cL_law 22 = .ok (.isub, 1) := by decide +kernel
theorem dL_law_23 : decode cL_law 23 = .ok (.if_icmp .gt 520, 3) := by decide +kernel
theorem dL_law_26 : decode cL_law 26 = .ok (.aload_n 0, 1) := by decide +kernel
theorem dL_law_27 : decode cL_law 27 = .ok (.iload_n 3, 1) := by decide +kernel
theorem dL_law_28 : decode cL_law 28 = .ok (.iaload, 1) := by decide +kernel
theorem dL_law_29 : decode cL_law 29 = .ok (.bipush 31, 2) := by decide +kernel
theorem dL_law_31 : decode cL_law 31 = .ok (.iand, 1) := by decide +kernel
theorem dL_law_32 : decode cL_law 32 = .ok (.tableswitch 505 0 16 #[84, 117, 140, 153, 166, 189, 202, 235, 248, 261, 304, 337, 380, 403, 426, 449, 492], 84) := by decide +kernel
theorem dL_law_116 : decode cL_law 116 = .ok (.aload_n 1, 1) := by decide +kernel
theorem dL_law_117 : decode cL_law 117 = .ok (.aload_n 0, 1) := by decide +kernel
theorem dL_law_118 : decode cL_law 118 = .ok (.iload_n 3, 1) := by decide +kernel
theorem dL_law_119 : decode cL_law 119 = .ok (.iconst 1, 1) := by decide +kernel
theorem dL_law_120 : decode cL_law 120 = .ok (.iadd, 1) := by decide +kernel
theorem dL_law_121 : decode cL_law 121 = .ok (.iaload, 1) := by decide +kernel
theorem dL_law_122 : decode cL_law 122 = .ok (.aload_n 0, 1) := by decide +kernel
theorem dL_law_123 : decode cL_law 123 = .ok (.iload_n 3, 1) := by decide +kernel
theorem dL_law_124 : decode cL_law 124 = .ok (.iconst 2, 1) := by decide +kernel
theorem dL_law_125 : decode cL_law 125 = .ok (.iadd, 1) := by decide +kernel
theorem dL_law_126 : decode cL_law 126 = .ok (.iaload, 1) := by decide +kernel
theorem dL_law_127 : decode cL_law 127 = .ok (.invokevirtual 13, 3) := by decide +kernel
theorem dL_law_130 : decode cL_law 130 = .ok (.aload_n 2, 1) := by decide +kernel
theorem dL_law_131 : decode cL_law 131 = .ok (.aload_n 0, 1) := by decide +kernel
theorem dL_law_132 : decode cL_law 132 = .ok (.iload_n 3, 1) := by decide +kernel
theorem dL_law_133 : decode cL_law 133 = .ok (.iconst 1, 1) := by decide +kernel
theorem dL_law_134 : decode cL_law 134 = .ok (.iadd, 1) := by decide +kernel
theorem dL_law_135 : decode cL_law 135 = .ok (.iaload, 1) := by decide +kernel
theorem dL_law_136 : decode cL_law 136 = .ok (.aload_n 0, 1) := by decide +kernel
theorem dL_law_137 : decode cL_law 137 = .ok (.iload_n 3, 1) := by decide +kernel
theorem dL_law_138 : decode cL_law 138 = .ok (.iconst 2, 1) := by decide +kernel
theorem dL_law_139 : decode cL_law 139 = .ok (.iadd, 1) := by decide +kernel
theorem dL_law_140 : decode cL_law 140 = .ok (.iaload, 1) := by decide +kernel
theorem dL_law_141 : decode cL_law 141 = .ok (.invokevirtual 17, 3) := by decide +kernel
theorem dL_law_144 : decode cL_law 144 = .ok (.if_icmp .eq 393, 3) := by decide +kernel
theorem dL_law_147 : decode cL_law 147 = .ok (.iconst 0, 1) := by decide +kernel
theorem dL_law_148 : decode cL_law 148 = .ok (.ireturn, 1) := by decide +kernel
theorem dL_law_149 : decode cL_law 149 = .ok (.aload_n 1, 1) := by decide +kernel
theorem dL_law_150 : decode cL_law 150 = .ok (.aload_n 0, 1) := by decide +kernel
theorem dL_law_151 : decode cL_law 151 = .ok (.iload_n 3, 1) := by decide +kernel
theorem dL_law_152 : decode cL_law 152 = .ok (.iconst 1, 1) := by decide +kernel
theorem dL_law_153 : decode cL_law 153 = .ok (.iadd, 1) := by decide +kernel
theorem dL_law_154 : decode cL_law 154 = .ok (.iaload, 1) := by decide +kernel
theorem dL_law_155 : decode cL_law 155 = .ok (.invokevirtual 18, 3) := by decide +kernel
theorem dL_law_158 : decode cL_law 158 = .ok (.aload_n 2, 1) := by decide +kernel
theorem dL_law_159 : decode cL_law 159 = .ok (.aload_n 0, 1) := by decide +kernel
theorem dL_law_160 : decode cL_law 160 = .ok (.iload_n 3, 1) := by decide +kernel
theorem dL_law_161 : decode cL_law 161 = .ok (.iconst 1, 1) := by decide +kernel
theorem dL_law_162 : decode cL_law 162 = .ok (.iadd, 1) := by decide +kernel
theorem dL_law_163 : decode cL_law 163 = .ok (.iaload, 1) := by decide +kernel
theorem dL_law_164 : decode cL_law 164 = .ok (.invokevirtual 22, 3) := by decide +kernel
theorem dL_law_167 : decode cL_law 167 = .ok (.if_icmp .eq 370, 3) := by decide +kernel
theorem dL_law_170 : decode cL_law 170 = .ok (.iconst 0, 1) := by decide +kernel
theorem dL_law_171 : decode cL_law 171 = .ok (.ireturn, 1) := by decide +kernel
theorem dL_law_172 : decode cL_law 172 = .ok (.aload_n 1, 1) := by decide +kernel
theorem dL_law_173 : decode cL_law 173 = .ok (.invokevirtual 23, 3) := by decide +kernel
theorem dL_law_176 : decode cL_law 176 = .ok (.aload_n 2, 1) := by decide +kernel
theorem dL_law_177 : decode cL_law 177 = .ok (.invokevirtual 27, 3) := by decide +kernel
theorem dL_law_180 : decode cL_law 180 = .ok (.if_icmp .eq 357, 3) := by decide +kernel
theorem dL_law_183 : decode cL_law 183 = .ok (.iconst 0, 1) := by decide +kernel
theorem dL_law_184 : decode cL_law 184 = .ok (.ireturn, 1) := by decide +kernel
theorem dL_law_185 : decode cL_law 185 = .ok (.aload_n 1, 1) := by decide +kernel
theorem dL_law_186 : decode cL_law 186 = .ok (.invokevirtual 28, 3) := by decide +kernel
theorem dL_law_189 : decode cL_law 189 = .ok (.aload_n 2, 1) := by decide +kernel
theorem dL_law_190 : decode cL_law 190 = .ok (.invokevirtual 31, 3) := by decide +kernel
theorem dL_law_193 : decode cL_law 193 = .ok (.if_icmp .eq 344, 3) := by decide +kernel
theorem dL_law_196 : decode cL_law 196 = .ok (.iconst 0, 1) := by decide +kernel
theorem dL_law_197 : decode cL_law 197 = .ok (.ireturn, 1) := by decide +kernel
theorem dL_law_198 : decode cL_law 198 = .ok (.aload_n 1, 1) := by decide +kernel
theorem dL_law_199 : decode cL_law 199 = .ok (.aload_n 0, 1) := by decide +kernel
theorem dL_law_200 : decode cL_law 200 = .ok (.iload_n 3, 1) := by decide +kernel
theorem dL_law_201 : decode cL_law 201 = .ok (.iconst 1, 1) := by decide +kernel
theorem dL_law_202 : decode cL_law 202 = .ok (.iadd, 1) := by decide +kernel
theorem dL_law_203 : decode cL_law 203 = .ok (.iaload, 1) := by decide +kernel
theorem dL_law_204 : decode cL_law 204 = .ok (.invokevirtual 32, 3) := by decide +kernel
theorem dL_law_207 : decode cL_law 207 = .ok (.aload_n 2, 1) := by decide +kernel
theorem dL_law_208 : decode cL_law 208 = .ok (.aload_n 0, 1) := by decide +kernel
theorem dL_law_209 : decode cL_law 209 = .ok (.iload_n 3, 1) := by decide +kernel
theorem dL_law_210 : decode cL_law 210 = .ok (.iconst 1, 1) := by decide +kernel
theorem dL_law_211 : decode cL_law 211 = .ok (.iadd, 1) := by decide +kernel
theorem dL_law_212 : decode cL_law 212 = .ok (.iaload, 1) := by decide +kernel
theorem dL_law_213 : decode cL_law 213 = .ok (.invokevirtual 35, 3) := by decide +kernel
theorem dL_law_216 : decode cL_law 216 = .ok (.if_icmp .eq 321, 3) := by decide +kernel
theorem dL_law_219 : decode cL_law 219 = .ok (.iconst 0, 1) := by decide +kernel
theorem dL_law_220 : decode cL_law 220 = .ok (.ireturn, 1) := by decide +kernel
theorem dL_law_221 : decode cL_law 221 = .ok (.aload_n 1, 1) := by decide +kernel
theorem dL_law_222 : decode cL_law 222 = .ok (.invokevirtual 36, 3) := by decide +kernel
theorem dL_law_225 : decode cL_law 225 = .ok (.aload_n 2, 1) := by decide +kernel
theorem dL_law_226 : decode cL_law 226 = .ok (.invokevirtual 39, 3) := by decide +kernel
theorem dL_law_229 : decode cL_law 229 = .ok (.if_icmp .eq 308, 3) := by decide +kernel
theorem dL_law_232 : decode cL_law 232 = .ok (.iconst 0, 1) := by decide +kernel
theorem dL_law_233 : decode cL_law 233 = .ok (.ireturn, 1) := by decide +kernel
theorem dL_law_234 : decode cL_law 234 = .ok (.aload_n 1, 1) := by decide +kernel
theorem dL_law_235 : decode cL_law 235 = .ok (.aload_n 0, 1) := by decide +kernel
theorem dL_law_236 : decode cL_law 236 = .ok (.iload_n 3, 1) := by decide +kernel
theorem dL_law_237 : decode cL_law 237 = .ok (.iconst 1, 1) := by decide +kernel
theorem dL_law_238 : decode cL_law 238 = .ok (.iadd, 1) := by decide +kernel
theorem dL_law_239 : decode cL_law 239 = .ok (.iaload, 1) := by decide +kernel
theorem dL_law_240 : decode cL_law 240 = .ok (.aload_n 0, 1) := by decide +kernel
theorem dL_law_241 : decode cL_law 241 = .ok (.iload_n 3, 1) := by decide +kernel
theorem dL_law_242 : decode cL_law 242 = .ok (.iconst 2, 1) := by decide +kernel
theorem dL_law_243 : decode cL_law 243 = .ok (.iadd, 1) := by decide +kernel
theorem dL_law_244 : decode cL_law 244 = .ok (.iaload, 1) := by decide +kernel
theorem dL_law_245 : decode cL_law 245 = .ok (.invokevirtual 40, 3) := by decide +kernel
theorem dL_law_248 : decode cL_law 248 = .ok (.aload_n 2, 1) := by decide +kernel
theorem dL_law_249 : decode cL_law 249 = .ok (.aload_n 0, 1) := by decide +kernel
theorem dL_law_250 : decode cL_law 250 = .ok (.iload_n 3, 1) := by decide +kernel
theorem dL_law_251 : decode cL_law 251 = .ok (.iconst 1, 1) := by decide +kernel
theorem dL_law_252 : decode cL_law 252 = .ok (.iadd, 1) := by decide +kernel
theorem dL_law_253 : decode cL_law 253 = .ok (.iaload, 1) := by decide +kernel
theorem dL_law_254 : decode cL_law 254 = .ok (.aload_n 0, 1) := by decide +kernel
theorem dL_law_255 : decode cL_law 255 = .ok (.iload_n 3, 1) := by decide +kernel
theorem dL_law_256 : decode cL_law 256 = .ok (.iconst 2, 1) := by decide +kernel
theorem dL_law_257 : decode cL_law 257 = .ok (.iadd, 1) := by decide +kernel
theorem dL_law_258 : decode cL_law 258 = .ok (.iaload, 1) := by decide +kernel
theorem dL_law_259 : decode cL_law 259 = .ok (.invokevirtual 43, 3) := by decide +kernel
theorem dL_law_262 : decode cL_law 262 = .ok (.if_icmp .eq 275, 3) := by decide +kernel
theorem dL_law_265 : decode cL_law 265 = .ok (.iconst 0, 1) := by decide +kernel
theorem dL_law_266 : decode cL_law 266 = .ok (.ireturn, 1) := by decide +kernel
theorem dL_law_267 : decode cL_law 267 = .ok (.aload_n 1, 1) := by decide +kernel
theorem dL_law_268 : decode cL_law 268 = .ok (.invokevirtual 44, 3) := by decide +kernel
theorem dL_law_271 : decode cL_law 271 = .ok (.aload_n 2, 1) := by decide +kernel
theorem dL_law_272 : decode cL_law 272 = .ok (.invokevirtual 47, 3) := by decide +kernel
theorem dL_law_275 : decode cL_law 275 = .ok (.if_icmp .eq 262, 3) := by decide +kernel
theorem dL_law_278 : decode cL_law 278 = .ok (.iconst 0, 1) := by decide +kernel
theorem dL_law_279 : decode cL_law 279 = .ok (.ireturn, 1) := by decide +kernel
theorem dL_law_280 : decode cL_law 280 = .ok (.aload_n 1, 1) := by decide +kernel
theorem dL_law_281 : decode cL_law 281 = .ok (.invokevirtual 48, 3) := by decide +kernel
theorem dL_law_284 : decode cL_law 284 = .ok (.aload_n 2, 1) := by decide +kernel
theorem dL_law_285 : decode cL_law 285 = .ok (.invokevirtual 51, 3) := by decide +kernel
theorem dL_law_288 : decode cL_law 288 = .ok (.if_icmp .eq 249, 3) := by decide +kernel
theorem dL_law_291 : decode cL_law 291 = .ok (.iconst 0, 1) := by decide +kernel
theorem dL_law_292 : decode cL_law 292 = .ok (.ireturn, 1) := by decide +kernel
theorem dL_law_293 : decode cL_law 293 = .ok (.aload_n 1, 1) := by decide +kernel
theorem dL_law_294 : decode cL_law 294 = .ok (.aload_n 0, 1) := by decide +kernel
theorem dL_law_295 : decode cL_law 295 = .ok (.iload_n 3, 1) := by decide +kernel
theorem dL_law_296 : decode cL_law 296 = .ok (.iconst 1, 1) := by decide +kernel
theorem dL_law_297 : decode cL_law 297 = .ok (.iadd, 1) := by decide +kernel
theorem dL_law_298 : decode cL_law 298 = .ok (.iaload, 1) := by decide +kernel
theorem dL_law_299 : decode cL_law 299 = .ok (.aload_n 0, 1) := by decide +kernel
theorem dL_law_300 : decode cL_law 300 = .ok (.iload_n 3, 1) := by decide +kernel
theorem dL_law_301 : decode cL_law 301 = .ok (.iconst 2, 1) := by decide +kernel
theorem dL_law_302 : decode cL_law 302 = .ok (.iadd, 1) := by decide +kernel
theorem dL_law_303 : decode cL_law 303 = .ok (.iaload, 1) := by decide +kernel
theorem dL_law_304 : decode cL_law 304 = .ok (.aload_n 0, 1) := by decide +kernel
theorem dL_law_305 : decode cL_law 305 = .ok (.iload_n 3, 1) := by decide +kernel
theorem dL_law_306 : decode cL_law 306 = .ok (.iconst 3, 1) := by decide +kernel
theorem dL_law_307 : decode cL_law 307 = .ok (.iadd, 1) := by decide +kernel
theorem dL_law_308 : decode cL_law 308 = .ok (.iaload, 1) := by decide +kernel
theorem dL_law_309 : decode cL_law 309 = .ok (.invokevirtual 52, 3) := by decide +kernel
theorem dL_law_312 : decode cL_law 312 = .ok (.aload_n 2, 1) := by decide +kernel
theorem dL_law_313 : decode cL_law 313 = .ok (.aload_n 0, 1) := by decide +kernel
theorem dL_law_314 : decode cL_law 314 = .ok (.iload_n 3, 1) := by decide +kernel
theorem dL_law_315 : decode cL_law 315 = .ok (.iconst 1, 1) := by decide +kernel
theorem dL_law_316 : decode cL_law 316 = .ok (.iadd, 1) := by decide +kernel
theorem dL_law_317 : decode cL_law 317 = .ok (.iaload, 1) := by decide +kernel
theorem dL_law_318 : decode cL_law 318 = .ok (.aload_n 0, 1) := by decide +kernel
theorem dL_law_319 : decode cL_law 319 = .ok (.iload_n 3, 1) := by decide +kernel
theorem dL_law_320 : decode cL_law 320 = .ok (.iconst 2, 1) := by decide +kernel
theorem dL_law_321 : decode cL_law 321 = .ok (.iadd, 1) := by decide +kernel
theorem dL_law_322 : decode cL_law 322 = .ok (.iaload, 1) := by decide +kernel
theorem dL_law_323 : decode cL_law 323 = .ok (.aload_n 0, 1) := by decide +kernel
theorem dL_law_324 : decode cL_law 324 = .ok (.iload_n 3, 1) := by decide +kernel
theorem dL_law_325 : decode cL_law 325 = .ok (.iconst 3, 1) := by decide +kernel
theorem dL_law_326 : decode cL_law 326 = .ok (.iadd, 1) := by decide +kernel
theorem dL_law_327 : decode cL_law 327 = .ok (.iaload, 1) := by decide +kernel
theorem dL_law_328 : decode cL_law 328 = .ok (.invokevirtual 56, 3) := by decide +kernel
theorem dL_law_331 : decode cL_law 331 = .ok (.if_icmp .eq 206, 3) := by decide +kernel
theorem dL_law_334 : decode cL_law 334 = .ok (.iconst 0, 1) := by decide +kernel
theorem dL_law_335 : decode cL_law 335 = .ok (.ireturn, 1) := by decide +kernel
theorem dL_law_336 : decode cL_law 336 = .ok (.aload_n 1, 1) := by decide +kernel
theorem dL_law_337 : decode cL_law 337 = .ok (.aload_n 0, 1) := by decide +kernel
theorem dL_law_338 : decode cL_law 338 = .ok (.iload_n 3, 1) := by decide +kernel
theorem dL_law_339 : decode cL_law 339 = .ok (.iconst 1, 1) := by decide +kernel
theorem dL_law_340 : decode cL_law 340 = .ok (.iadd, 1) := by decide +kernel
theorem dL_law_341 : decode cL_law 341 = .ok (.iaload, 1) := by decide +kernel
theorem dL_law_342 : decode cL_law 342 = .ok (.aload_n 0, 1) := by decide +kernel
theorem dL_law_343 : decode cL_law 343 = .ok (.iload_n 3, 1) := by decide +kernel
theorem dL_law_344 : decode cL_law 344 = .ok (.iconst 2, 1) := by decide +kernel
theorem dL_law_345 : decode cL_law 345 = .ok (.iadd, 1) := by decide +kernel
theorem dL_law_346 : decode cL_law 346 = .ok (.iaload, 1) := by decide +kernel
theorem dL_law_347 : decode cL_law 347 = .ok (.invokevirtual 57, 3) := by decide +kernel
theorem dL_law_350 : decode cL_law 350 = .ok (.aload_n 2, 1) := by decide +kernel
theorem dL_law_351 : decode cL_law 351 = .ok (.aload_n 0, 1) := by decide +kernel
theorem dL_law_352 : decode cL_law 352 = .ok (.iload_n 3, 1) := by decide +kernel
theorem dL_law_353 : decode cL_law 353 = .ok (.iconst 1, 1) := by decide +kernel
theorem dL_law_354 : decode cL_law 354 = .ok (.iadd, 1) := by decide +kernel
theorem dL_law_355 : decode cL_law 355 = .ok (.iaload, 1) := by decide +kernel
theorem dL_law_356 : decode cL_law 356 = .ok (.aload_n 0, 1) := by decide +kernel
theorem dL_law_357 : decode cL_law 357 = .ok (.iload_n 3, 1) := by decide +kernel
theorem dL_law_358 : decode cL_law 358 = .ok (.iconst 2, 1) := by decide +kernel
theorem dL_law_359 : decode cL_law 359 = .ok (.iadd, 1) := by decide +kernel
theorem dL_law_360 : decode cL_law 360 = .ok (.iaload, 1) := by decide +kernel
theorem dL_law_361 : decode cL_law 361 = .ok (.invokevirtual 60, 3) := by decide +kernel
theorem dL_law_364 : decode cL_law 364 = .ok (.if_icmp .eq 173, 3) := by decide +kernel
theorem dL_law_367 : decode cL_law 367 = .ok (.iconst 0, 1) := by decide +kernel
theorem dL_law_368 : decode cL_law 368 = .ok (.ireturn, 1) := by decide +kernel
theorem dL_law_369 : decode cL_law 369 = .ok (.aload_n 1, 1) := by decide +kernel
theorem dL_law_370 : decode cL_law 370 = .ok (.aload_n 0, 1) := by decide +kernel
theorem dL_law_371 : decode cL_law 371 = .ok (.iload_n 3, 1) := by decide +kernel
theorem dL_law_372 : decode cL_law 372 = .ok (.iconst 1, 1) := by decide +kernel
theorem dL_law_373 : decode cL_law 373 = .ok (.iadd, 1) := by decide +kernel
theorem dL_law_374 : decode cL_law 374 = .ok (.iaload, 1) := by decide +kernel
theorem dL_law_375 : decode cL_law 375 = .ok (.aload_n 0, 1) := by decide +kernel
theorem dL_law_376 : decode cL_law 376 = .ok (.iload_n 3, 1) := by decide +kernel
theorem dL_law_377 : decode cL_law 377 = .ok (.iconst 2, 1) := by decide +kernel
theorem dL_law_378 : decode cL_law 378 = .ok (.iadd, 1) := by decide +kernel
theorem dL_law_379 : decode cL_law 379 = .ok (.iaload, 1) := by decide +kernel
theorem dL_law_380 : decode cL_law 380 = .ok (.aload_n 0, 1) := by decide +kernel
theorem dL_law_381 : decode cL_law 381 = .ok (.iload_n 3, 1) := by decide +kernel
theorem dL_law_382 : decode cL_law 382 = .ok (.iconst 3, 1) := by decide +kernel
theorem dL_law_383 : decode cL_law 383 = .ok (.iadd, 1) := by decide +kernel
theorem dL_law_384 : decode cL_law 384 = .ok (.iaload, 1) := by decide +kernel
theorem dL_law_385 : decode cL_law 385 = .ok (.invokevirtual 61, 3) := by decide +kernel
theorem dL_law_388 : decode cL_law 388 = .ok (.aload_n 2, 1) := by decide +kernel
theorem dL_law_389 : decode cL_law 389 = .ok (.aload_n 0, 1) := by decide +kernel
theorem dL_law_390 : decode cL_law 390 = .ok (.iload_n 3, 1) := by decide +kernel
theorem dL_law_391 : decode cL_law 391 = .ok (.iconst 1, 1) := by decide +kernel
theorem dL_law_392 : decode cL_law 392 = .ok (.iadd, 1) := by decide +kernel
theorem dL_law_393 : decode cL_law 393 = .ok (.iaload, 1) := by decide +kernel
theorem dL_law_394 : decode cL_law 394 = .ok (.aload_n 0, 1) := by decide +kernel
theorem dL_law_395 : decode cL_law 395 = .ok (.iload_n 3, 1) := by decide +kernel
theorem dL_law_396 : decode cL_law 396 = .ok (.iconst 2, 1) := by decide +kernel
theorem dL_law_397 : decode cL_law 397 = .ok (.iadd, 1) := by decide +kernel
theorem dL_law_398 : decode cL_law 398 = .ok (.iaload, 1) := by decide +kernel
theorem dL_law_399 : decode cL_law 399 = .ok (.aload_n 0, 1) := by decide +kernel
theorem dL_law_400 : decode cL_law 400 = .ok (.iload_n 3, 1) := by decide +kernel
theorem dL_law_401 : decode cL_law 401 = .ok (.iconst 3, 1) := by decide +kernel
theorem dL_law_402 : decode cL_law 402 = .ok (.iadd, 1) := by decide +kernel
theorem dL_law_403 : decode cL_law 403 = .ok (.iaload, 1) := by decide +kernel
theorem dL_law_404 : decode cL_law 404 = .ok (.invokevirtual 64, 3) := by decide +kernel
theorem dL_law_407 : decode cL_law 407 = .ok (.if_icmp .eq 130, 3) := by decide +kernel
theorem dL_law_410 : decode cL_law 410 = .ok (.iconst 0, 1) := by decide +kernel
theorem dL_law_411 : decode cL_law 411 = .ok (.ireturn, 1) := by decide +kernel
theorem dL_law_412 : decode cL_law 412 = .ok (.aload_n 1, 1) := by decide +kernel
theorem dL_law_413 : decode cL_law 413 = .ok (.aload_n 0, 1) := by decide +kernel
theorem dL_law_414 : decode cL_law 414 = .ok (.iload_n 3, 1) := by decide +kernel
theorem dL_law_415 : decode cL_law 415 = .ok (.iconst 1, 1) := by decide +kernel
theorem dL_law_416 : decode cL_law 416 = .ok (.iadd, 1) := by decide +kernel
theorem dL_law_417 : decode cL_law 417 = .ok (.iaload, 1) := by decide +kernel
theorem dL_law_418 : decode cL_law 418 = .ok (.invokevirtual 65, 3) := by decide +kernel
theorem dL_law_421 : decode cL_law 421 = .ok (.aload_n 2, 1) := by decide +kernel
theorem dL_law_422 : decode cL_law 422 = .ok (.aload_n 0, 1) := by decide +kernel
theorem dL_law_423 : decode cL_law 423 = .ok (.iload_n 3, 1) := by decide +kernel
theorem dL_law_424 : decode cL_law 424 = .ok (.iconst 1, 1) := by decide +kernel
theorem dL_law_425 : decode cL_law 425 = .ok (.iadd, 1) := by decide +kernel
theorem dL_law_426 : decode cL_law 426 = .ok (.iaload, 1) := by decide +kernel
theorem dL_law_427 : decode cL_law 427 = .ok (.invokevirtual 68, 3) := by decide +kernel
theorem dL_law_430 : decode cL_law 430 = .ok (.if_icmp .eq 107, 3) := by decide +kernel
theorem dL_law_433 : decode cL_law 433 = .ok (.iconst 0, 1) := by decide +kernel
theorem dL_law_434 : decode cL_law 434 = .ok (.ireturn, 1) := by decide +kernel
theorem dL_law_435 : decode cL_law 435 = .ok (.aload_n 1, 1) := by decide +kernel
theorem dL_law_436 : decode cL_law 436 = .ok (.aload_n 0, 1) := by decide +kernel
theorem dL_law_437 : decode cL_law 437 = .ok (.iload_n 3, 1) := by decide +kernel
theorem dL_law_438 : decode cL_law 438 = .ok (.iconst 1, 1) := by decide +kernel
theorem dL_law_439 : decode cL_law 439 = .ok (.iadd, 1) := by decide +kernel
theorem dL_law_440 : decode cL_law 440 = .ok (.iaload, 1) := by decide +kernel
theorem dL_law_441 : decode cL_law 441 = .ok (.invokevirtual 69, 3) := by decide +kernel
theorem dL_law_444 : decode cL_law 444 = .ok (.aload_n 2, 1) := by decide +kernel
theorem dL_law_445 : decode cL_law 445 = .ok (.aload_n 0, 1) := by decide +kernel
theorem dL_law_446 : decode cL_law 446 = .ok (.iload_n 3, 1) := by decide +kernel
theorem dL_law_447 : decode cL_law 447 = .ok (.iconst 1, 1) := by decide +kernel
theorem dL_law_448 : decode cL_law 448 = .ok (.iadd, 1) := by decide +kernel
theorem dL_law_449 : decode cL_law 449 = .ok (.iaload, 1) := by decide +kernel
theorem dL_law_450 : decode cL_law 450 = .ok (.invokevirtual 72, 3) := by decide +kernel
theorem dL_law_453 : decode cL_law 453 = .ok (.if_icmp .eq 84, 3) := by decide +kernel
theorem dL_law_456 : decode cL_law 456 = .ok (.iconst 0, 1) := by decide +kernel
theorem dL_law_457 : decode cL_law 457 = .ok (.ireturn, 1) := by decide +kernel
theorem dL_law_458 : decode cL_law 458 = .ok (.aload_n 1, 1) := by decide +kernel
theorem dL_law_459 : decode cL_law 459 = .ok (.aload_n 0, 1) := by decide +kernel
theorem dL_law_460 : decode cL_law 460 = .ok (.iload_n 3, 1) := by decide +kernel
theorem dL_law_461 : decode cL_law 461 = .ok (.iconst 1, 1) := by decide +kernel
theorem dL_law_462 : decode cL_law 462 = .ok (.iadd, 1) := by decide +kernel
theorem dL_law_463 : decode cL_law 463 = .ok (.iaload, 1) := by decide +kernel
theorem dL_law_464 : decode cL_law 464 = .ok (.invokevirtual 73, 3) := by decide +kernel
theorem dL_law_467 : decode cL_law 467 = .ok (.aload_n 2, 1) := by decide +kernel
theorem dL_law_468 : decode cL_law 468 = .ok (.aload_n 0, 1) := by decide +kernel
theorem dL_law_469 : decode cL_law 469 = .ok (.iload_n 3, 1) := by decide +kernel
theorem dL_law_470 : decode cL_law 470 = .ok (.iconst 1, 1) := by decide +kernel
theorem dL_law_471 : decode cL_law 471 = .ok (.iadd, 1) := by decide +kernel
theorem dL_law_472 : decode cL_law 472 = .ok (.iaload, 1) := by decide +kernel
theorem dL_law_473 : decode cL_law 473 = .ok (.invokevirtual 76, 3) := by decide +kernel
theorem dL_law_476 : decode cL_law 476 = .ok (.if_icmp .eq 61, 3) := by decide +kernel
theorem dL_law_479 : decode cL_law 479 = .ok (.iconst 0, 1) := by decide +kernel
theorem dL_law_480 : decode cL_law 480 = .ok (.ireturn, 1) := by decide +kernel
theorem dL_law_481 : decode cL_law 481 = .ok (.aload_n 1, 1) := by decide +kernel
theorem dL_law_482 : decode cL_law 482 = .ok (.aload_n 0, 1) := by decide +kernel
theorem dL_law_483 : decode cL_law 483 = .ok (.iload_n 3, 1) := by decide +kernel
theorem dL_law_484 : decode cL_law 484 = .ok (.iconst 1, 1) := by decide +kernel
theorem dL_law_485 : decode cL_law 485 = .ok (.iadd, 1) := by decide +kernel
theorem dL_law_486 : decode cL_law 486 = .ok (.iaload, 1) := by decide +kernel
theorem dL_law_487 : decode cL_law 487 = .ok (.aload_n 0, 1) := by decide +kernel
theorem dL_law_488 : decode cL_law 488 = .ok (.iload_n 3, 1) := by decide +kernel
theorem dL_law_489 : decode cL_law 489 = .ok (.iconst 2, 1) := by decide +kernel
theorem dL_law_490 : decode cL_law 490 = .ok (.iadd, 1) := by decide +kernel
theorem dL_law_491 : decode cL_law 491 = .ok (.iaload, 1) := by decide +kernel
theorem dL_law_492 : decode cL_law 492 = .ok (.aload_n 0, 1) := by decide +kernel
theorem dL_law_493 : decode cL_law 493 = .ok (.iload_n 3, 1) := by decide +kernel
theorem dL_law_494 : decode cL_law 494 = .ok (.iconst 3, 1) := by decide +kernel
theorem dL_law_495 : decode cL_law 495 = .ok (.iadd, 1) := by decide +kernel
theorem dL_law_496 : decode cL_law 496 = .ok (.iaload, 1) := by decide +kernel
theorem dL_law_497 : decode cL_law 497 = .ok (.invokevirtual 77, 3) := by decide +kernel
theorem dL_law_500 : decode cL_law 500 = .ok (.aload_n 2, 1) := by decide +kernel
theorem dL_law_501 : decode cL_law 501 = .ok (.aload_n 0, 1) := by decide +kernel
theorem dL_law_502 : decode cL_law 502 = .ok (.iload_n 3, 1) := by decide +kernel
theorem dL_law_503 : decode cL_law 503 = .ok (.iconst 1, 1) := by decide +kernel
theorem dL_law_504 : decode cL_law 504 = .ok (.iadd, 1) := by decide +kernel
theorem dL_law_505 : decode cL_law 505 = .ok (.iaload, 1) := by decide +kernel
theorem dL_law_506 : decode cL_law 506 = .ok (.aload_n 0, 1) := by decide +kernel
theorem dL_law_507 : decode cL_law 507 = .ok (.iload_n 3, 1) := by decide +kernel
theorem dL_law_508 : decode cL_law 508 = .ok (.iconst 2, 1) := by decide +kernel
theorem dL_law_509 : decode cL_law 509 = .ok (.iadd, 1) := by decide +kernel
theorem dL_law_510 : decode cL_law 510 = .ok (.iaload, 1) := by decide +kernel
theorem dL_law_511 : decode cL_law 511 = .ok (.aload_n 0, 1) := by decide +kernel
theorem dL_law_512 : decode cL_law 512 = .ok (.iload_n 3, 1) := by decide +kernel
theorem dL_law_513 : decode cL_law 513 = .ok (.iconst 3, 1) := by decide +kernel
theorem dL_law_514 : decode cL_law 514 = .ok (.iadd, 1) := by decide +kernel
theorem dL_law_515 : decode cL_law 515 = .ok (.iaload, 1) := by decide +kernel
theorem dL_law_516 : decode cL_law 516 = .ok (.invokevirtual 80, 3) := by decide +kernel
theorem dL_law_519 : decode cL_law 519 = .ok (.if_icmp .eq 18, 3) := by decide +kernel
theorem dL_law_522 : decode cL_law 522 = .ok (.iconst 0, 1) := by decide +kernel
theorem dL_law_523 : decode cL_law 523 = .ok (.ireturn, 1) := by decide +kernel
theorem dL_law_524 : decode cL_law 524 = .ok (.aload_n 1, 1) := by decide +kernel
theorem dL_law_525 : decode cL_law 525 = .ok (.invokevirtual 81, 3) := by decide +kernel
theorem dL_law_528 : decode cL_law 528 = .ok (.aload_n 2, 1) := by decide +kernel
theorem dL_law_529 : decode cL_law 529 = .ok (.invokevirtual 84, 3) := by decide +kernel
theorem dL_law_532 : decode cL_law 532 = .ok (.if_icmp .eq 5, 3) := by decide +kernel
theorem dL_law_535 : decode cL_law 535 = .ok (.iconst 0, 1) := by decide +kernel
theorem dL_law_536 : decode cL_law 536 = .ok (.ireturn, 1) := by decide +kernel
theorem dL_law_537 : decode cL_law 537 = .ok (.iinc 3 4, 3) := by decide +kernel
theorem dL_law_540 : decode cL_law 540 = .ok (.goto (-522), 3) := by decide +kernel
theorem dL_law_543 : decode cL_law 543 = .ok (.iconst 1, 1) := by decide +kernel
theorem dL_law_544 : decode cL_law 544 = .ok (.ireturn, 1) := by decide +kernel
end
section
/-! Nat-level rows: an int is nI n, a word of bits is bw B (bit i is B i), a boolean is nI b.toNat -/
def bt (x : Int32) (i : Nat) : Bool := x.toBitVec.getLsbD i
theorem b_ext {x y : Int32} (h : ∀ i, i < 32 → bt x i = bt y i) : x = y := Int32.toBitVec_inj.mp (BitVec.eq_of_getLsbD_eq (fun i hi => h i hi))
theorem b_or (x y : Int32) (i : Nat) : bt (x ||| y) i = (bt x i || bt y i) := by unfold bt; rw [Int32.toBitVec_or, BitVec.getLsbD_or]
theorem b_and (x y : Int32) (i : Nat) : bt (x &&& y) i = (bt x i && bt y i) := by unfold bt; rw [Int32.toBitVec_and, BitVec.getLsbD_and]
theorem b_xor (x y : Int32) (i : Nat) : bt (x ^^^ y) i = (bt x i ^^ bt y i) := by unfold bt; rw [Int32.toBitVec_xor, BitVec.getLsbD_xor]
theorem b_big {x : Int32} {i : Nat} (h : 32 ≤ i) : bt x i = false := BitVec.getLsbD_of_ge _ _ h
theorem b_m1 : ∀ i, i < 32 → bt (-1) i = true := by decide +kernel
theorem b_0 (i : Nat) : bt 0 i = false := BitVec.getLsbD_zero
theorem s_l : ∀ n, n < 32 → ((nI n &&& 31).toBitVec.smod 32).toNat = n := by decide +kernel
theorem s_u : ∀ n, n < 32 → (((nI n).toUInt32 &&& Int32.toUInt32 31).toBitVec % 32).toNat = n := by decide +kernel
theorem b_shl (n : Nat) (hn : n < 32) (x : Int32) {i : Nat} (hi : i < 32) : bt (x <<< (nI n &&& 31)) i = (decide (n ≤ i) && bt x (i - n)) := by
  unfold bt
  rw [Int32.toBitVec_shiftLeft]
  show (x.toBitVec <<< ((nI n &&& 31).toBitVec.smod 32).toNat).getLsbD i = _
  rw [s_l n hn, BitVec.getLsbD_shiftLeft]
  rcases Nat.lt_or_ge i n with h | h
  · simp [h, Nat.not_le.mpr h]
  · simp [hi, h, Nat.not_lt.mpr h]
theorem b_ushr (n : Nat) (hn : n < 32) (x : Int32) (i : Nat) : bt ((x.toUInt32 >>> ((nI n).toUInt32 &&& Int32.toUInt32 31)).toInt32) i = bt x (n + i) := by
  show (x.toUInt32 >>> ((nI n).toUInt32 &&& Int32.toUInt32 31)).toBitVec.getLsbD i = x.toUInt32.toBitVec.getLsbD (n + i)
  rw [UInt32.toBitVec_shiftRight]
  show (x.toUInt32.toBitVec >>> (((nI n).toUInt32 &&& Int32.toUInt32 31).toBitVec % 32).toNat).getLsbD i = _
  rw [s_u n hn, BitVec.getLsbD_ushiftRight]
theorem b_sshr (n : Nat) (hn : n < 32) (x : Int32) {i : Nat} (hi : i < 32) : bt (x >>> (nI n &&& 31)) i = if n + i < 32 then bt x (n + i) else bt x 31 := by
  unfold bt
  rw [Int32.toBitVec_shiftRight]
  show (x.toBitVec.sshiftRight ((nI n &&& 31).toBitVec.smod 32).toNat).getLsbD i = _
  rw [s_l n hn, BitVec.getLsbD_sshiftRight, BitVec.msb_eq_getLsbD_last]
  simp [hi]
theorem b_1 : ∀ i, i < 32 → bt (nI 1) i = decide (i = 0) := by decide +kernel
/-- bits 0 .. n-1 of B as a vector -/
def bw_v (B : Nat → Bool) : Nat → BitVec 32
  | 0 => 0#32
  | n + 1 => bw_v B n ||| (if B n = true then BitVec.twoPow 32 n else 0#32)
def bw (B : Nat → Bool) : Int32 := Int32.ofBitVec (bw_v B 32)
theorem bw_vbit (B : Nat → Bool) (i : Nat) (hi : i < 32) : ∀ n, (bw_v B n).getLsbD i = (decide (i < n) && B i) := by
  intro n
  induction n with
  | zero => simp [bw_v]
  | succ n ih =>
    rw [bw_v, BitVec.getLsbD_or, ih]
    by_cases hB : B n = true
    · rw [if_pos hB, BitVec.getLsbD_twoPow]
      by_cases h : i = n
      · subst h
        simp [hB, hi]
      · have h1 : decide (n = i) = false := decide_eq_false (fun z => h z.symm)
        have h2 : decide (i < n + 1) = decide (i < n) := by
          by_cases h3 : i < n
          · rw [decide_eq_true h3, decide_eq_true (by omega)]
          · rw [decide_eq_false h3, decide_eq_false (by omega)]
        rw [h1, h2]
        simp
    · rw [if_neg hB, BitVec.getLsbD_zero]
      by_cases h : i = n
      · subst h
        simp [hB]
      · have h2 : decide (i < n + 1) = decide (i < n) := by
          by_cases h3 : i < n
          · rw [decide_eq_true h3, decide_eq_true (by omega)]
          · rw [decide_eq_false h3, decide_eq_false (by omega)]
        rw [h2]
        simp
theorem bw_bt {B : Nat → Bool} {i : Nat} (h : i < 32) : bt (bw B) i = B i := by
  show (bw_v B 32).getLsbD i = B i
  rw [bw_vbit B i h 32, decide_eq_true h]
  simp
theorem bw_ext {x : Int32} {B : Nat → Bool} (h : ∀ i, i < 32 → bt x i = B i) : x = bw B := b_ext (fun i hi => by rw [h i hi, bw_bt hi])
theorem bw_eq {B C : Nat → Bool} (h : ∀ i, i < 32 → B i = C i) : bw B = bw C := bw_ext (fun i hi => by rw [bw_bt hi, h i hi])
def bs (k : Nat) : Nat → Bool := fun i => decide (i = k)
theorem bw_one {k : Nat} (hk : k < 32) : nI 1 <<< (nI k &&& 31) = bw (bs k) := by
  refine bw_ext (fun i hi => ?_)
  rw [b_shl k hk _ hi]
  show (decide (k ≤ i) && bt (nI 1) (i - k)) = decide (i = k)
  rw [b_1 (i - k) (by omega)]
  by_cases h : i = k
  · subst h
    simp
  · by_cases h2 : k ≤ i
    · rw [decide_eq_true h2, decide_eq_false h, decide_eq_false (by omega)]
      simp
    · rw [decide_eq_false h2, decide_eq_false h]
      simp
theorem bw_zero : bw (fun _ => false) = 0 := (bw_ext (fun i hi => by rw [b_0])).symm
theorem bw_eq0 {B : Nat → Bool} : bw B = 0 ↔ ∀ i, i < 32 → B i = false := by
  constructor
  · intro h i hi
    have z := bw_bt (B := B) hi
    rw [h, b_0] at z
    exact z.symm
  · intro h
    rw [← bw_zero]
    exact bw_eq h
theorem bw_or (B C : Nat → Bool) : bw B ||| bw C = bw (fun i => B i || C i) := bw_ext (fun i hi => by rw [b_or, bw_bt hi, bw_bt hi])
theorem bw_set (B : Nat → Bool) (k : Nat) : bw B ||| bw (bs k) = bw (va_up B k true) := by
  rw [bw_or]
  refine bw_eq (fun i hi => ?_)
  show (B i || decide (i = k)) = if i = k then true else B i
  by_cases h : i = k
  · simp [h]
  · simp [h]
theorem bw_clr (B : Nat → Bool) (k : Nat) : bw B &&& (bw (bs k) ^^^ (-1)) = bw (va_up B k false) := by
  refine bw_ext (fun i hi => ?_)
  rw [b_and, b_xor, bw_bt hi, bw_bt hi, b_m1 i hi]
  show (B i && (decide (i = k) ^^ true)) = if i = k then false else B i
  by_cases h : i = k
  · simp [h]
  · simp [h]
theorem bw_tst {B : Nat → Bool} {k : Nat} (hk : k < 32) : bw B &&& bw (bs k) = 0 ↔ B k = false := by
  have e : bw B &&& bw (bs k) = bw (fun i => B i && bs k i) := bw_ext (fun i hi => by rw [b_and, bw_bt hi, bw_bt hi])
  rw [e, bw_eq0]
  constructor
  · intro h
    have := h k hk
    simpa [bs] using this
  · intro h i hi
    by_cases q : i = k
    · subst q
      simp [h]
    · simp [bs, q]
theorem bw_low {x : Int32} {b : Bool} (h : bt x 0 = b) : x &&& nI 1 = nI b.toNat := by
  refine b_ext (fun i hi => ?_)
  rw [b_and, b_1 i hi]
  have h1 : bt (nI b.toNat) i = (decide (i = 0) && b) := by
    cases b
    · exact (by decide +kernel : ∀ i, i < 32 → bt (nI false.toNat) i = (decide (i = 0) && false)) i hi
    · exact (by decide +kernel : ∀ i, i < 32 → bt (nI true.toNat) i = (decide (i = 0) && true)) i hi
  rw [h1]
  by_cases q : i = 0
  · subst q
    rw [h]
    simp
  · simp [q]
theorem bw_ush {B : Nat → Bool} {k : Nat} (hk : k < 32) : ((bw B).toUInt32 >>> ((nI k).toUInt32 &&& Int32.toUInt32 31)).toInt32 &&& nI 1 = nI (B k).toNat := bw_low (by rw [b_ushr k hk, Nat.add_zero, bw_bt hk])
theorem bw_shr {B : Nat → Bool} {k : Nat} (hk : k < 32) : (bw B >>> (nI k &&& 31)) &&& nI 1 = nI (B k).toNat := bw_low (by rw [b_sshr k hk _ (by omega), Nat.add_zero, if_pos hk, bw_bt hk])
theorem nI_b1 {b : Bool} : nI b.toNat = nI 1 ↔ b = true := by cases b <;> decide +kernel
theorem nI_b0 {b : Bool} : nI b.toNat = 0 ↔ b = false := by cases b <;> decide +kernel
theorem nI_bn (b : Bool) : narrow .boolean (.int (nI b.toNat)) = .int (nI b.toNat) := by cases b <;> decide +kernel
theorem nI_bv (b : Bool) : vp_nar .boolean (nI b.toNat) = nI b.toNat := by cases b <;> decide +kernel
/-- word w of a set of bits -/
abbrev wd (S : Nat → Bool) : Nat → Int32 := fun w => bw (fun k => S (32 * w + k))
abbrev nF (f : Nat → Nat) : Nat → Int32 := fun j => nI (f j)
abbrev zF (f : Nat → Bool) : Nat → Int32 := fun j => nI (f j).toNat
theorem nF_up (f : Nat → Nat) (i v : Nat) : upd (nF f) i (nI v) = nF (va_up f i v) := by
  funext j
  show (if j = i then nI v else nI (f j)) = nI (if j = i then v else f j)
  split <;> rfl
theorem zF_up (f : Nat → Bool) (i : Nat) (v : Bool) : upd (zF f) i (nI v.toNat) = zF (va_up f i v) := by
  funext j
  show (if j = i then nI v.toNat else nI (f j).toNat) = nI ((if j = i then v else f j)).toNat
  split <;> rfl
theorem wd_up (S : Nat → Bool) (w k : Nat) (hk : k < 32) (v : Bool) : upd (wd S) w (bw (va_up (fun k => S (32 * w + k)) k v)) = wd (va_up S (32 * w + k) v) := by
  funext j
  show (if j = w then bw (va_up (fun k => S (32 * w + k)) k v) else bw (fun k => S (32 * j + k))) = bw (fun i => if 32 * j + i = 32 * w + k then v else S (32 * j + i))
  by_cases h : j = w
  · subst h
    rw [if_pos rfl]
    refine bw_eq (fun i hi => ?_)
    show (if i = k then v else S (32 * j + i)) = if 32 * j + i = 32 * j + k then v else S (32 * j + i)
    by_cases q : i = k
    · rw [if_pos q, if_pos (by omega)]
    · rw [if_neg q, if_neg (by omega)]
  · rw [if_neg h]
    refine bw_eq (fun i hi => ?_)
    rw [if_neg (by omega)]
theorem wd_up0 (S S' : Nat → Bool) (w : Nat) (h : ∀ d, S' d = if d / 32 = w then false else S d) : upd (wd S) w (nI 0) = wd S' := by
  funext j
  show (if j = w then nI 0 else bw (fun k => S (32 * j + k))) = bw (fun i => S' (32 * j + i))
  by_cases q : j = w
  · subst q
    rw [if_pos rfl]
    have e : nI 0 = bw (fun _ => false) := by rw [bw_zero]; exact nI_0
    rw [e]
    refine bw_eq (fun i hi => ?_)
    rw [h, if_pos (by omega)]
  · rw [if_neg q]
    refine bw_eq (fun i hi => ?_)
    rw [h, if_neg (by omega)]
/-- a loop that counts up to N -/
theorem gp_up {P : Nat → Prop} {N : Nat} (h : ∀ k, k ≤ N → (k < N → P (k + 1)) → P k) : ∀ k, k ≤ N → P k := by
  have g : ∀ n k, k ≤ N → N - k = n → P k := by
    intro n
    induction n with
    | zero => exact fun k hk e => h k hk (fun q => absurd e (by omega))
    | succ n ih => exact fun k hk e => h k hk (fun q => ih (k + 1) q (by omega))
  exact fun k hk => g _ k hk rfl
/-- a loop that counts down -/
theorem gp_dn {P : Nat → Prop} (h : ∀ k, (∀ j, k = j + 1 → P j) → P k) : ∀ k, P k := by
  intro k
  induction k with
  | zero => exact h 0 (fun j e => absurd e (by omega))
  | succ k ih => exact h (k + 1) (fun j e => by have : k = j := by omega
                                                rw [← this]; exact ih)
section NR
variable {p : Program} {l : Launch} {e : Env} {R : Room} {s : State} {m : MethodId} {args : Array Value} {below : List Frame} {meth : Method} {c : Code} {H : Heap} {locs : List Loc} {cells slots : Nat} {Q : State → Prop}
variable {cc : ByteArray} {pc nL : Nat} {ls : Array Slot} {rest : List Value}
theorem nr_iconst (hx : p.tables.exec = Jvm.exec) (hb : c.code = cc) {n : Int} {v : Nat} (hdg : decode cc pc = .ok (.iconst n, 1)) (hv : Int32.ofInt n = nI v) (k : W p l e R s m args below meth c H locs cells slots Q (F0 m (pc + 1) ls (.int (nI v) :: rest))) : W p l e R s m args below meth c H locs cells slots Q (F0 m pc ls (rest)) := lv_iconst hx hb hdg hv k
theorem nr_bipush (hx : p.tables.exec = Jvm.exec) (hb : c.code = cc) {n : Int} {v : Nat} (hdg : decode cc pc = .ok (.bipush n, 2)) (hv : (Int8.ofInt n).toInt32 = nI v) (k : W p l e R s m args below meth c H locs cells slots Q (F0 m (pc + 2) ls (.int (nI v) :: rest))) : W p l e R s m args below meth c H locs cells slots Q (F0 m pc ls (rest)) := lv_bipush hx hb hdg hv k
theorem nr_sipush (hx : p.tables.exec = Jvm.exec) (hb : c.code = cc) {n : Int} {v : Nat} (hdg : decode cc pc = .ok (.sipush n, 3)) (hv : (Int16.ofInt n).toInt32 = nI v) (k : W p l e R s m args below meth c H locs cells slots Q (F0 m (pc + 3) ls (.int (nI v) :: rest))) : W p l e R s m args below meth c H locs cells slots Q (F0 m pc ls (rest)) := lv_sipush hx hb hdg hv k
theorem nr_iadd (hx : p.tables.exec = Jvm.exec) (hb : c.code = cc) {a b : Nat} (hdg : decode cc pc = .ok (.iadd, 1))  (k : W p l e R s m args below meth c H locs cells slots Q (F0 m (pc + 1) ls (.int (nI (a + b)) :: rest))) : W p l e R s m args below meth c H locs cells slots Q (F0 m pc ls (.int (nI b) :: .int (nI a) :: rest)) := lv_iadd hx hb hdg (by rw [nI_add]; exact k)
theorem nr_isub (hx : p.tables.exec = Jvm.exec) (hb : c.code = cc) {a b : Nat} (hdg : decode cc pc = .ok (.isub, 1)) (h : b ≤ a) (k : W p l e R s m args below meth c H locs cells slots Q (F0 m (pc + 1) ls (.int (nI (a - b)) :: rest))) : W p l e R s m args below meth c H locs cells slots Q (F0 m pc ls (.int (nI b) :: .int (nI a) :: rest)) := lv_isub hx hb hdg (by rw [pk_sub h]; exact k)
theorem nr_imul (hx : p.tables.exec = Jvm.exec) (hb : c.code = cc) {a b : Nat} (hdg : decode cc pc = .ok (.imul, 1))  (k : W p l e R s m args below meth c H locs cells slots Q (F0 m (pc + 1) ls (.int (nI (a * b)) :: rest))) : W p l e R s m args below meth c H locs cells slots Q (F0 m pc ls (.int (nI b) :: .int (nI a) :: rest)) := lv_imul hx hb hdg (by rw [pk_mul]; exact k)
theorem nr_idiv (hx : p.tables.exec = Jvm.exec) (hb : c.code = cc) {a b : Nat} (hdg : decode cc pc = .ok (.idiv, 1)) (h : a < 2 ^ 31) (h0 : 0 < b) (h2 : b < 2 ^ 31) (k : W p l e R s m args below meth c H locs cells slots Q (F0 m (pc + 1) ls (.int (nI (a / b)) :: rest))) : W p l e R s m args below meth c H locs cells slots Q (F0 m pc ls (.int (nI b) :: .int (nI a) :: rest)) := lv_idiv hx hb hdg (nI_ne0 h0 h2) (by rw [pk_div h h0 h2]; exact k)
theorem nr_irem (hx : p.tables.exec = Jvm.exec) (hb : c.code = cc) {a b : Nat} (hdg : decode cc pc = .ok (.irem, 1)) (h : a < 2 ^ 31) (h0 : 0 < b) (h2 : b < 2 ^ 31) (k : W p l e R s m args below meth c H locs cells slots Q (F0 m (pc + 1) ls (.int (nI (a % b)) :: rest))) : W p l e R s m args below meth c H locs cells slots Q (F0 m pc ls (.int (nI b) :: .int (nI a) :: rest)) := lv_irem hx hb hdg (nI_ne0 h0 h2) (by rw [pk_rem h h0 h2]; exact k)
theorem nr_shr5 (hx : p.tables.exec = Jvm.exec) (hb : c.code = cc) {a : Nat} (hdg : decode cc pc = .ok (.ishr, 1)) (h : a < 2 ^ 31) (k : W p l e R s m args below meth c H locs cells slots Q (F0 m (pc + 1) ls (.int (nI (a / 32)) :: rest))) : W p l e R s m args below meth c H locs cells slots Q (F0 m pc ls (.int (nI 5) :: .int (nI a) :: rest)) := lv_ishr hx hb hdg (by rw [pk_shrN h _ 5 (s_l 5 (by omega))]; exact k)
theorem nr_shr2 (hx : p.tables.exec = Jvm.exec) (hb : c.code = cc) {a : Nat} (hdg : decode cc pc = .ok (.ishr, 1)) (h : a < 2 ^ 31) (k : W p l e R s m args below meth c H locs cells slots Q (F0 m (pc + 1) ls (.int (nI (a / 4)) :: rest))) : W p l e R s m args below meth c H locs cells slots Q (F0 m pc ls (.int (nI 2) :: .int (nI a) :: rest)) := lv_ishr hx hb hdg (by rw [pk_shrN h _ 2 (s_l 2 (by omega))]; exact k)
theorem nr_and31 (hx : p.tables.exec = Jvm.exec) (hb : c.code = cc) {a : Nat} (hdg : decode cc pc = .ok (.iand, 1)) (h : a < 2 ^ 31) (k : W p l e R s m args below meth c H locs cells slots Q (F0 m (pc + 1) ls (.int (nI (a % 32)) :: rest))) : W p l e R s m args below meth c H locs cells slots Q (F0 m pc ls (.int (nI 31) :: .int (nI a) :: rest)) := lv_iand hx hb hdg (by rw [pk_andN (by omega) 5 (by decide +kernel)]; exact k)
theorem nr_and3 (hx : p.tables.exec = Jvm.exec) (hb : c.code = cc) {a : Nat} (hdg : decode cc pc = .ok (.iand, 1)) (h : a < 2 ^ 31) (k : W p l e R s m args below meth c H locs cells slots Q (F0 m (pc + 1) ls (.int (nI (a % 4)) :: rest))) : W p l e R s m args below meth c H locs cells slots Q (F0 m pc ls (.int (nI 3) :: .int (nI a) :: rest)) := lv_iand hx hb hdg (by rw [pk_andN (by omega) 2 (by decide +kernel)]; exact k)
theorem nr_shl1 (hx : p.tables.exec = Jvm.exec) (hb : c.code = cc) {k0 : Nat} (hdg : decode cc pc = .ok (.ishl, 1)) (h : k0 < 32) (k : W p l e R s m args below meth c H locs cells slots Q (F0 m (pc + 1) ls (.int (bw (bs k0)) :: rest))) : W p l e R s m args below meth c H locs cells slots Q (F0 m pc ls (.int (nI k0) :: .int (nI 1) :: rest)) := lv_ishl hx hb hdg (by rw [bw_one h]; exact k)
theorem nr_set (hx : p.tables.exec = Jvm.exec) (hb : c.code = cc) {B : Nat → Bool} {k0 : Nat} (hdg : decode cc pc = .ok (.ior, 1))  (k : W p l e R s m args below meth c H locs cells slots Q (F0 m (pc + 1) ls (.int (bw (va_up B k0 true)) :: rest))) : W p l e R s m args below meth c H locs cells slots Q (F0 m pc ls (.int (bw (bs k0)) :: .int (bw B) :: rest)) := lv_ior hx hb hdg (by rw [bw_set]; exact k)
theorem nr_ior (hx : p.tables.exec = Jvm.exec) (hb : c.code = cc) {B C : Nat → Bool} (hdg : decode cc pc = .ok (.ior, 1))  (k : W p l e R s m args below meth c H locs cells slots Q (F0 m (pc + 1) ls (.int (bw (fun i => B i || C i)) :: rest))) : W p l e R s m args below meth c H locs cells slots Q (F0 m pc ls (.int (bw C) :: .int (bw B) :: rest)) := lv_ior hx hb hdg (by rw [bw_or]; exact k)
theorem nr_clr (hx : p.tables.exec = Jvm.exec) (hb : c.code = cc) {B : Nat → Bool} {k0 : Nat} (hdg : decode cc pc = .ok (.iand, 1))  (k : W p l e R s m args below meth c H locs cells slots Q (F0 m (pc + 1) ls (.int (bw (va_up B k0 false)) :: rest))) : W p l e R s m args below meth c H locs cells slots Q (F0 m pc ls (.int (bw (bs k0) ^^^ (-1)) :: .int (bw B) :: rest)) := lv_iand hx hb hdg (by rw [bw_clr]; exact k)
theorem nr_ush (hx : p.tables.exec = Jvm.exec) (hb : c.code = cc) {B : Nat → Bool} {k0 : Nat} (hdg : decode cc pc = .ok (.iand, 1)) (h : k0 < 32) (k : W p l e R s m args below meth c H locs cells slots Q (F0 m (pc + 1) ls (.int (nI (B k0).toNat) :: rest))) : W p l e R s m args below meth c H locs cells slots Q (F0 m pc ls (.int (nI 1) :: .int (((bw B).toUInt32 >>> ((nI k0).toUInt32 &&& Int32.toUInt32 31)).toInt32) :: rest)) := lv_iand hx hb hdg (by rw [bw_ush h]; exact k)
theorem nr_shr (hx : p.tables.exec = Jvm.exec) (hb : c.code = cc) {B : Nat → Bool} {k0 : Nat} (hdg : decode cc pc = .ok (.iand, 1)) (h : k0 < 32) (k : W p l e R s m args below meth c H locs cells slots Q (F0 m (pc + 1) ls (.int (nI (B k0).toNat) :: rest))) : W p l e R s m args below meth c H locs cells slots Q (F0 m pc ls (.int (nI 1) :: .int (bw B >>> (nI k0 &&& 31)) :: rest)) := lv_iand hx hb hdg (by rw [bw_shr h]; exact k)
theorem nr_icmp_lt (hx : p.tables.exec = Jvm.exec) (hb : c.code = cc) {a b : Nat} {off : Int} {tgt : Nat} (hdg : decode cc pc = .ok (.if_icmp .lt off, 3)) (ht : (pc : Int) + off = (tgt : Int)) (ha : a < 2 ^ 31) (h2 : b < 2 ^ 31) (kt : a < b → W p l e R s m args below meth c H locs cells slots Q (F0 m tgt ls rest)) (kf : b ≤ a → W p l e R s m args below meth c H locs cells slots Q (F0 m (pc + 3) ls rest)) : W p l e R s m args below meth c H locs cells slots Q (F0 m pc ls (.int (nI b) :: .int (nI a) :: rest)) := lv_icmp_lt hx hb hdg ht (fun q => kt ((nI_ltI ha h2).mp q)) (fun q => kf (Nat.not_lt.mp (fun z => q ((nI_ltI ha h2).mpr z))))
theorem nr_icmp_ge (hx : p.tables.exec = Jvm.exec) (hb : c.code = cc) {a b : Nat} {off : Int} {tgt : Nat} (hdg : decode cc pc = .ok (.if_icmp .ge off, 3)) (ht : (pc : Int) + off = (tgt : Int)) (ha : a < 2 ^ 31) (h2 : b < 2 ^ 31) (kt : b ≤ a → W p l e R s m args below meth c H locs cells slots Q (F0 m tgt ls rest)) (kf : a < b → W p l e R s m args below meth c H locs cells slots Q (F0 m (pc + 3) ls rest)) : W p l e R s m args below meth c H locs cells slots Q (F0 m pc ls (.int (nI b) :: .int (nI a) :: rest)) := lv_icmp_ge hx hb hdg ht (fun q => kt ((nI_leI h2 ha).mp q)) (fun q => kf (Nat.not_le.mp (fun z => q ((nI_leI h2 ha).mpr z))))
theorem nr_icmp_gt (hx : p.tables.exec = Jvm.exec) (hb : c.code = cc) {a b : Nat} {off : Int} {tgt : Nat} (hdg : decode cc pc = .ok (.if_icmp .gt off, 3)) (ht : (pc : Int) + off = (tgt : Int)) (ha : a < 2 ^ 31) (h2 : b < 2 ^ 31) (kt : b < a → W p l e R s m args below meth c H locs cells slots Q (F0 m tgt ls rest)) (kf : a ≤ b → W p l e R s m args below meth c H locs cells slots Q (F0 m (pc + 3) ls rest)) : W p l e R s m args below meth c H locs cells slots Q (F0 m pc ls (.int (nI b) :: .int (nI a) :: rest)) := lv_icmp_gt hx hb hdg ht (fun q => kt ((nI_ltI h2 ha).mp q)) (fun q => kf (Nat.not_lt.mp (fun z => q ((nI_ltI h2 ha).mpr z))))
theorem nr_icmp_le (hx : p.tables.exec = Jvm.exec) (hb : c.code = cc) {a b : Nat} {off : Int} {tgt : Nat} (hdg : decode cc pc = .ok (.if_icmp .le off, 3)) (ht : (pc : Int) + off = (tgt : Int)) (ha : a < 2 ^ 31) (h2 : b < 2 ^ 31) (kt : a ≤ b → W p l e R s m args below meth c H locs cells slots Q (F0 m tgt ls rest)) (kf : b < a → W p l e R s m args below meth c H locs cells slots Q (F0 m (pc + 3) ls rest)) : W p l e R s m args below meth c H locs cells slots Q (F0 m pc ls (.int (nI b) :: .int (nI a) :: rest)) := lv_icmp_le hx hb hdg ht (fun q => kt ((nI_leI ha h2).mp q)) (fun q => kf (Nat.not_le.mp (fun z => q ((nI_leI ha h2).mpr z))))
theorem nr_icmp_eq (hx : p.tables.exec = Jvm.exec) (hb : c.code = cc) {a b : Nat} {off : Int} {tgt : Nat} (hdg : decode cc pc = .ok (.if_icmp .eq off, 3)) (ht : (pc : Int) + off = (tgt : Int)) (ha : a < 2 ^ 31) (h2 : b < 2 ^ 31) (kt : a = b → W p l e R s m args below meth c H locs cells slots Q (F0 m tgt ls rest)) (kf : a ≠ b → W p l e R s m args below meth c H locs cells slots Q (F0 m (pc + 3) ls rest)) : W p l e R s m args below meth c H locs cells slots Q (F0 m pc ls (.int (nI b) :: .int (nI a) :: rest)) := lv_icmp_eq hx hb hdg ht (fun q => kt ((nI_eq ha h2).mp q)) (fun q => kf (fun z => q ((nI_eq ha h2).mpr z)))
theorem nr_icmp_ne (hx : p.tables.exec = Jvm.exec) (hb : c.code = cc) {a b : Nat} {off : Int} {tgt : Nat} (hdg : decode cc pc = .ok (.if_icmp .ne off, 3)) (ht : (pc : Int) + off = (tgt : Int)) (ha : a < 2 ^ 31) (h2 : b < 2 ^ 31) (kt : a ≠ b → W p l e R s m args below meth c H locs cells slots Q (F0 m tgt ls rest)) (kf : a = b → W p l e R s m args below meth c H locs cells slots Q (F0 m (pc + 3) ls rest)) : W p l e R s m args below meth c H locs cells slots Q (F0 m pc ls (.int (nI b) :: .int (nI a) :: rest)) := lv_icmp_ne hx hb hdg ht (fun q => kt (fun z => q ((nI_eq ha h2).mpr z))) (fun q => kf ((nI_eq ha h2).mp q))
theorem nI_d2 {a b : Nat} (ha : a < 2 ^ 30) (hb : b < 2 ^ 30) : nI a ≤ nI b - nI 2 ↔ a + 2 ≤ b := by rw [Int32.le_iff_toInt_le, pk_sub_toInt hb (by omega), nI_toInt (by omega)]; omega
theorem nr_le_d2 (hx : p.tables.exec = Jvm.exec) (hb : c.code = cc) {a b : Nat} {off : Int} {tgt : Nat} (hdg : decode cc pc = .ok (.if_icmp .le off, 3)) (ht : (pc : Int) + off = (tgt : Int)) (ha : a < 2 ^ 30) (h2 : b < 2 ^ 30) (kt : a + 2 ≤ b → W p l e R s m args below meth c H locs cells slots Q (F0 m tgt ls rest)) (kf : b < a + 2 → W p l e R s m args below meth c H locs cells slots Q (F0 m (pc + 3) ls rest)) : W p l e R s m args below meth c H locs cells slots Q (F0 m pc ls (.int (nI b - nI 2) :: .int (nI a) :: rest)) := lv_icmp_le hx hb hdg ht (fun q => kt ((nI_d2 ha h2).mp q)) (fun q => kf (Nat.not_le.mp (fun z => q ((nI_d2 ha h2).mpr z))))
theorem nr_if_eq (hx : p.tables.exec = Jvm.exec) (hb : c.code = cc) {a : Nat} {off : Int} {tgt : Nat} (hdg : decode cc pc = .ok (.ifCond .eq off, 3)) (ht : (pc : Int) + off = (tgt : Int)) (ha : a < 2 ^ 31) (kt : a = 0 → W p l e R s m args below meth c H locs cells slots Q (F0 m tgt ls rest)) (kf : a ≠ 0 → W p l e R s m args below meth c H locs cells slots Q (F0 m (pc + 3) ls rest)) : W p l e R s m args below meth c H locs cells slots Q (F0 m pc ls (.int (nI a) :: rest)) := lv_if_eq hx hb hdg ht (fun q => kt ((nI_eq ha (by omega)).mp (q.trans nI_0.symm))) (fun q => kf (fun z => q (by rw [z]; exact nI_0)))
theorem nr_if_ne (hx : p.tables.exec = Jvm.exec) (hb : c.code = cc) {a : Nat} {off : Int} {tgt : Nat} (hdg : decode cc pc = .ok (.ifCond .ne off, 3)) (ht : (pc : Int) + off = (tgt : Int)) (ha : a < 2 ^ 31) (kt : a ≠ 0 → W p l e R s m args below meth c H locs cells slots Q (F0 m tgt ls rest)) (kf : a = 0 → W p l e R s m args below meth c H locs cells slots Q (F0 m (pc + 3) ls rest)) : W p l e R s m args below meth c H locs cells slots Q (F0 m pc ls (.int (nI a) :: rest)) := lv_if_ne hx hb hdg ht (fun q => kt (fun z => q (by rw [z]; exact nI_0))) (fun q => kf ((nI_eq ha (by omega)).mp (q.trans nI_0.symm)))
theorem nr_if_le (hx : p.tables.exec = Jvm.exec) (hb : c.code = cc) {a : Nat} {off : Int} {tgt : Nat} (hdg : decode cc pc = .ok (.ifCond .le off, 3)) (ht : (pc : Int) + off = (tgt : Int)) (ha : a < 2 ^ 31) (kt : a = 0 → W p l e R s m args below meth c H locs cells slots Q (F0 m tgt ls rest)) (kf : 0 < a → W p l e R s m args below meth c H locs cells slots Q (F0 m (pc + 3) ls rest)) : W p l e R s m args below meth c H locs cells slots Q (F0 m pc ls (.int (nI a) :: rest)) := lv_if_le hx hb hdg ht (fun q => kt (by rcases Nat.eq_zero_or_pos a with z | z; exact z; exact absurd q (nI_nle z ha))) (fun q => kf (by rcases Nat.eq_zero_or_pos a with z | z; exact absurd (by rw [z, nI_0]; exact Int32.le_refl _) q; exact z))
theorem nr_if_eq_b (hx : p.tables.exec = Jvm.exec) (hb : c.code = cc) {b : Bool} {off : Int} {tgt : Nat} (hdg : decode cc pc = .ok (.ifCond .eq off, 3)) (ht : (pc : Int) + off = (tgt : Int))  (kt : b = false → W p l e R s m args below meth c H locs cells slots Q (F0 m tgt ls rest)) (kf : b = true → W p l e R s m args below meth c H locs cells slots Q (F0 m (pc + 3) ls rest)) : W p l e R s m args below meth c H locs cells slots Q (F0 m pc ls (.int (nI b.toNat) :: rest)) := lv_if_eq hx hb hdg ht (fun q => kt (nI_b0.mp q)) (fun q => kf (by cases h : b; exact absurd (nI_b0.mpr h) q; rfl))
theorem nr_if_ne_b (hx : p.tables.exec = Jvm.exec) (hb : c.code = cc) {b : Bool} {off : Int} {tgt : Nat} (hdg : decode cc pc = .ok (.ifCond .ne off, 3)) (ht : (pc : Int) + off = (tgt : Int))  (kt : b = true → W p l e R s m args below meth c H locs cells slots Q (F0 m tgt ls rest)) (kf : b = false → W p l e R s m args below meth c H locs cells slots Q (F0 m (pc + 3) ls rest)) : W p l e R s m args below meth c H locs cells slots Q (F0 m pc ls (.int (nI b.toNat) :: rest)) := lv_if_ne hx hb hdg ht (fun q => kt (by cases h : b; exact absurd (nI_b0.mpr h) q; rfl)) (fun q => kf (nI_b0.mp q))
theorem nr_ne_b (hx : p.tables.exec = Jvm.exec) (hb : c.code = cc) {b : Bool} {off : Int} {tgt : Nat} (hdg : decode cc pc = .ok (.if_icmp .ne off, 3)) (ht : (pc : Int) + off = (tgt : Int))  (kt : b = false → W p l e R s m args below meth c H locs cells slots Q (F0 m tgt ls rest)) (kf : b = true → W p l e R s m args below meth c H locs cells slots Q (F0 m (pc + 3) ls rest)) : W p l e R s m args below meth c H locs cells slots Q (F0 m pc ls (.int (nI 1) :: .int (nI b.toNat) :: rest)) := lv_icmp_ne hx hb hdg ht (fun q => kt (by cases h : b; rfl; exact absurd (nI_b1.mpr h) q)) (fun q => kf (nI_b1.mp q))
theorem nr_if_ne_t (hx : p.tables.exec = Jvm.exec) (hb : c.code = cc) {B : Nat → Bool} {k0 : Nat} {off : Int} {tgt : Nat} (hdg : decode cc pc = .ok (.ifCond .ne off, 3)) (ht : (pc : Int) + off = (tgt : Int)) (hk : k0 < 32) (kt : B k0 = true → W p l e R s m args below meth c H locs cells slots Q (F0 m tgt ls rest)) (kf : B k0 = false → W p l e R s m args below meth c H locs cells slots Q (F0 m (pc + 3) ls rest)) : W p l e R s m args below meth c H locs cells slots Q (F0 m pc ls (.int (bw B &&& bw (bs k0)) :: rest)) := lv_if_ne hx hb hdg ht (fun q => kt (by cases h : B k0; exact absurd ((bw_tst hk).mpr h) q; rfl)) (fun q => kf ((bw_tst hk).mp q))
theorem nr_if_eq_t (hx : p.tables.exec = Jvm.exec) (hb : c.code = cc) {B : Nat → Bool} {k0 : Nat} {off : Int} {tgt : Nat} (hdg : decode cc pc = .ok (.ifCond .eq off, 3)) (ht : (pc : Int) + off = (tgt : Int)) (hk : k0 < 32) (kt : B k0 = false → W p l e R s m args below meth c H locs cells slots Q (F0 m tgt ls rest)) (kf : B k0 = true → W p l e R s m args below meth c H locs cells slots Q (F0 m (pc + 3) ls rest)) : W p l e R s m args below meth c H locs cells slots Q (F0 m pc ls (.int (bw B &&& bw (bs k0)) :: rest)) := lv_if_eq hx hb hdg ht (fun q => kt ((bw_tst hk).mp q)) (fun q => kf (by cases h : B k0; exact absurd ((bw_tst hk).mpr h) q; rfl))
theorem nr_if_eq_w (hx : p.tables.exec = Jvm.exec) (hb : c.code = cc) {B : Nat → Bool} {off : Int} {tgt : Nat} (hdg : decode cc pc = .ok (.ifCond .eq off, 3)) (ht : (pc : Int) + off = (tgt : Int))  (kt : (∀ i, i < 32 → B i = false) → W p l e R s m args below meth c H locs cells slots Q (F0 m tgt ls rest)) (kf : (¬ ∀ i, i < 32 → B i = false) → W p l e R s m args below meth c H locs cells slots Q (F0 m (pc + 3) ls rest)) : W p l e R s m args below meth c H locs cells slots Q (F0 m pc ls (.int (bw B) :: rest)) := lv_if_eq hx hb hdg ht (fun q => kt (bw_eq0.mp q)) (fun q => kf (fun z => q (bw_eq0.mpr z)))
theorem nr_if_lt (hx : p.tables.exec = Jvm.exec) (hb : c.code = cc) {a : Nat} {off : Int} {tgt : Nat} (hdg : decode cc pc = .ok (.ifCond .lt off, 3)) (ht : (pc : Int) + off = (tgt : Int)) (ha : a < 2 ^ 31) (k : W p l e R s m args below meth c H locs cells slots Q (F0 m (pc + 3) ls rest)) : W p l e R s m args below meth c H locs cells slots Q (F0 m pc ls (.int (nI a) :: rest)) := lv_if_lt hx hb hdg ht (fun q => absurd q (nI_pos ha)) (fun _ => k)
theorem nr_if_ge (hx : p.tables.exec = Jvm.exec) (hb : c.code = cc) {a : Nat} {off : Int} {tgt : Nat} (hdg : decode cc pc = .ok (.ifCond .ge off, 3)) (ht : (pc : Int) + off = (tgt : Int)) (ha : a < 2 ^ 31) (k : W p l e R s m args below meth c H locs cells slots Q (F0 m tgt ls rest)) : W p l e R s m args below meth c H locs cells slots Q (F0 m pc ls (.int (nI a) :: rest)) := lv_if_ge hx hb hdg ht (fun _ => k) (fun q => absurd (nI_pos' ha) q)
theorem nr_top {x y : Int32} (h : x = y) (k : W p l e R s m args below meth c H locs cells slots Q (F0 m pc ls (.int y :: rest))) : W p l e R s m args below meth c H locs cells slots Q (F0 m pc ls (.int x :: rest)) := h ▸ k
theorem nr_iinc (hx : p.tables.exec = Jvm.exec) (hb : c.code = cc) {i k0 a v : Nat} {n : Int} {lv lv' : List (Nat × Value)} (hdg : decode cc pc = .ok (.iinc i n, 3)) (h : lv_has ls nL lv) (hk : lv[k0]? = some (i, .int (nI a))) (hv : nI a + Int32.ofInt n = nI v) (hn : i < nL) (hl : (i, Value.int (nI v)) :: lv.filter (fun q => !(q.1 == i) && !(q.1 + 1 == i && q.2.category == 2)) = lv') (kk : ∀ ls' : Array Slot, lv_has ls' nL lv' → W p l e R s m args below meth c H locs cells slots Q (F0 m (pc + 3) ls' rest)) : W p l e R s m args below meth c H locs cells slots Q (F0 m pc ls rest) := lv_iinc hx hb hdg h hk hv hn hl kk
theorem nI_i1 (a : Nat) : nI a + Int32.ofInt 1 = nI (a + 1) := nI_1 a
theorem nI_m1 (i : Nat) : nI (i + 1) - nI 1 = nI i := by rw [pk_sub (by omega)]; rfl
theorem nI_id (i : Nat) : nI (i + 1) - nI 1 + Int32.ofInt (-1) = nI i - nI 1 := by rw [nI_m1, Int32.sub_eq_add_neg, show Int32.ofInt (-1) = -nI 1 by decide +kernel]
theorem nI_neg : nI 0 - nI 1 < 0 := by decide +kernel
theorem nr_if_lt_m (hx : p.tables.exec = Jvm.exec) (hb : c.code = cc) {j : Nat} {off : Int} {tgt : Nat} (hdg : decode cc pc = .ok (.ifCond .lt off, 3)) (ht : (pc : Int) + off = (tgt : Int)) (hj : j < 2 ^ 31) (kt : j = 0 → W p l e R s m args below meth c H locs cells slots Q (F0 m tgt ls rest)) (kf : 0 < j → W p l e R s m args below meth c H locs cells slots Q (F0 m (pc + 3) ls rest)) : W p l e R s m args below meth c H locs cells slots Q (F0 m pc ls (.int (nI j - nI 1) :: rest)) := lv_if_lt hx hb hdg ht (fun q => kt (by rcases Nat.eq_zero_or_pos j with z | z; exact z; exact absurd q (by rw [pk_sub z]; exact nI_pos (by omega)))) (fun q => kf (by rcases Nat.eq_zero_or_pos j with z | z; exact absurd (by rw [z]; exact nI_neg) q; exact z))
theorem nI_im (a : Nat) : nI (a + 1) + Int32.ofInt (-1) = nI a := pk_m1 a
end NR
end
section
/-! the worlds of the two classes as mathematical values, and their rows -/
abbrev vwCl : List vw_C := [(RX0, TX0, 12), (RX1, TX1, 6)]
abbrev GG : Type := (Nat → Nat) × (Nat → Nat) × (Nat → Nat) × (Nat → Nat) × Nat × Nat
def gLf (G : GG) : Nat → Nat := G.1
def gRt (G : GG) : Nat → Nat := G.2.1
def gSz (G : GG) : Nat → Nat := G.2.2.1
def gTx (G : GG) : Nat → Nat := G.2.2.2.1
def gCn (G : GG) : Nat := G.2.2.2.2.1
def gSi (G : GG) : Nat := G.2.2.2.2.2
def sGLf (G : GG) (x : Nat → Nat) : GG := (x, gRt G, gSz G, gTx G, gCn G, gSi G)
def sGRt (G : GG) (x : Nat → Nat) : GG := (gLf G, x, gSz G, gTx G, gCn G, gSi G)
def sGSz (G : GG) (x : Nat → Nat) : GG := (gLf G, gRt G, x, gTx G, gCn G, gSi G)
def sGTx (G : GG) (x : Nat → Nat) : GG := (gLf G, gRt G, gSz G, x, gCn G, gSi G)
def sGCn (G : GG) (x : Nat) : GG := (gLf G, gRt G, gSz G, gTx G, x, gSi G)
def sGSi (G : GG) (x : Nat) : GG := (gLf G, gRt G, gSz G, gTx G, gCn G, x)
abbrev EE : Type := (Nat → Bool) × (Nat → Bool) × (Nat → Bool) × (Nat → Bool) × (Nat → Bool) × Nat
def eS (E : EE) : Nat → Bool := E.1
def eP (E : EE) : Nat → Bool := E.2.1
def eC (E : EE) : Nat → Bool := E.2.2.1
def eE (E : EE) : Nat → Bool := E.2.2.2.1
def eO (E : EE) : Nat → Bool := E.2.2.2.2.1
def eN (E : EE) : Nat := E.2.2.2.2.2
def sES (E : EE) (x : Nat → Bool) : EE := (x, eP E, eC E, eE E, eO E, eN E)
def sEP (E : EE) (x : Nat → Bool) : EE := (eS E, x, eC E, eE E, eO E, eN E)
def sEC (E : EE) (x : Nat → Bool) : EE := (eS E, eP E, x, eE E, eO E, eN E)
def sEE (E : EE) (x : Nat → Bool) : EE := (eS E, eP E, eC E, x, eO E, eN E)
def sEO (E : EE) (x : Nat → Bool) : EE := (eS E, eP E, eC E, eE E, x, eN E)
def sEN (E : EE) (x : Nat) : EE := (eS E, eP E, eC E, eE E, eO E, x)
abbrev MM : Type := (Nat → Nat) × (Nat → Nat) × (Nat → Nat) × (Nat → Bool) × Nat × Nat
def mLf (M : MM) : Nat → Nat := M.1
def mRt (M : MM) : Nat → Nat := M.2.1
def mTx (M : MM) : Nat → Nat := M.2.2.1
def mT (M : MM) : Nat → Bool := M.2.2.2.1
def mCn (M : MM) : Nat := M.2.2.2.2.1
def mLn (M : MM) : Nat := M.2.2.2.2.2
def sMLf (M : MM) (x : Nat → Nat) : MM := (x, mRt M, mTx M, mT M, mCn M, mLn M)
def sMRt (M : MM) (x : Nat → Nat) : MM := (mLf M, x, mTx M, mT M, mCn M, mLn M)
def sMTx (M : MM) (x : Nat → Nat) : MM := (mLf M, mRt M, x, mT M, mCn M, mLn M)
def sMT (M : MM) (x : Nat → Bool) : MM := (mLf M, mRt M, mTx M, x, mCn M, mLn M)
def sMCn (M : MM) (x : Nat) : MM := (mLf M, mRt M, mTx M, mT M, x, mLn M)
def sMLn (M : MM) (x : Nat) : MM := (mLf M, mRt M, mTx M, mT M, mCn M, x)
abbrev wX (h : Nat → Nat) (ca : Nat → ClassId) (G : GG) (E : EE) : va_W := [(h 0, .inr (0, [.ref (h 1), .ref (h 2), .ref (h 3), .ref (h 4), .ref (h 5), .ref (h 6), .ref (h 7), .ref (h 8), .ref (h 9), .int (nI (gCn G)), .int (nI (gSi G)), .int (nI (eN E))])), (h 1, .inl (ca 1, 12, .inl (nF (gLf G)))), (h 2, .inl (ca 2, 36, .inl (nF (gRt G)))), (h 3, .inl (ca 3, 12, .inl (nF (gSz G)))), (h 4, .inl (ca 4, 9, .inl (nF (gTx G)))), (h 5, .inl (ca 5, 608, .inl (wd (eS E)))), (h 6, .inl (ca 6, 608, .inl (wd (eP E)))), (h 7, .inl (ca 7, 3060, .inl (wd (eC E)))), (h 8, .inl (ca 8, 45, .inl (wd (eE E)))), (h 9, .inl (ca 9, 45, .inl (zF (eO E))))]
abbrev tX (ca : Nat → ClassId) : List (ClassId × FieldType) := [(ca 1, .int), (ca 2, .int), (ca 3, .int), (ca 4, .int), (ca 5, .int), (ca 6, .int), (ca 7, .int), (ca 8, .int), (ca 9, .boolean)]
theorem gp_Dmap {A : Nat → Prop} {ws ws' : va_W} (e : ws.map (·.1) = ws'.map (·.1)) (h : va_D A ws) : va_D A ws' := by
  have key : ∀ (k : Nat) (q : Nat × va_E), ws'[k]? = some q → ∃ q' : Nat × va_E, ws[k]? = some q' ∧ q'.1 = q.1 := by
    intro k q hq
    have h1 : (ws'.map (·.1))[k]? = some q.1 := by rw [List.getElem?_map, hq]; rfl
    rw [← e, List.getElem?_map] at h1
    cases hk : ws[k]? with
    | none => rw [hk] at h1; cases h1
    | some q' => rw [hk] at h1; exact ⟨q', rfl, Option.some.inj h1⟩
  refine ⟨fun i j x y hi hj hxy => ?_, fun k q hq => ?_⟩
  · obtain ⟨x', hx, ex⟩ := key i x hi
    obtain ⟨y', hy, ey⟩ := key j y hj
    exact h.1 i j x' y' hx hy (by rw [ex, ey, hxy])
  · obtain ⟨q', hk, ek⟩ := key k q hq
    rw [← ek]
    exact h.2 k q' hk
def XC (p : Program) (s : State) (m : MethodId) (args : Array Value) (c : Code) (cc : ByteArray) (nL : Nat) (D : va_G) (h : Nat → Nat) (ca : Nat → ClassId) (A : Nat → Prop) : Prop := CallFix p m c cc nL s args lw_all RX0 ∧ va_K D vwCl (tX ca) s ∧ ∀ (G : GG) (E : EE), va_D A (wX h ca G E)
abbrev PX (D : va_G) (h : Nat → Nat) (ca : Nat → ClassId) (A : Nat → Prop) (G : GG) (E : EE) (As : List Value) : Array Value → State → Prop := va_Pc (.ref (h 0) :: As) (fun U => va_P D vwCl (wX h ca G E) U.heap ∧ va_K D vwCl (tX ca) U ∧ va_D A (wX h ca G E))
abbrev BX (D : va_G) (h : Nat → Nat) (ca : Nat → ClassId) : GG × EE → State → Prop := fun u t => va_P D vwCl (wX h ca u.1 u.2) t.heap
section WX
variable {p : Program} {l : Launch} {e : Env} {R : Room} {s : State} {m : MethodId} {args : Array Value} {below : List Frame} {meth : Method} {c : Code} {H : Heap} {locs : List Loc} {cells slots : Nat} {Q : State → Prop}
variable {cc : ByteArray} {pc nL : Nat} {ls : Array Slot} {rest : List Value} {D : va_G} {h : Nat → Nat} {ca : Nat → ClassId} {A : Nat → Prop}
variable {G : GG} {E : EE}
theorem gx_f0 (X : XC p s m args c cc nL D h ca A) (hP : va_P D vwCl (wX h ca G E) H) (hdg : decode cc pc = .ok (.getfield 7, 3)) (kk : W p l e R s m args below meth c H locs cells slots Q (F0 m (pc + 3) ls (.ref (h 1) :: rest))) : W p l e R s m args below meth c H locs cells slots Q (F0 m pc ls (.ref (h 0) :: rest)) := va_get (D := D) (ci := 0) (v := .ref (h 1)) (C := RX0) (T := TX0) (N := 12) X.1.1 X.1.2.1 X.1.2.2.2.2 in_X0 X.1.2.2.2.1 X.2.1 hP 0 rfl rfl 0 (by decide) (X.1.2.2.2.2 _ q33) (fun _ h9 => h9) rfl hdg kk
theorem gx_f1 (X : XC p s m args c cc nL D h ca A) (hP : va_P D vwCl (wX h ca G E) H) (hdg : decode cc pc = .ok (.getfield 13, 3)) (kk : W p l e R s m args below meth c H locs cells slots Q (F0 m (pc + 3) ls (.ref (h 2) :: rest))) : W p l e R s m args below meth c H locs cells slots Q (F0 m pc ls (.ref (h 0) :: rest)) := va_get (D := D) (ci := 0) (v := .ref (h 2)) (C := RX0) (T := TX0) (N := 12) X.1.1 X.1.2.1 X.1.2.2.2.2 in_X0 X.1.2.2.2.1 X.2.1 hP 0 rfl rfl 1 (by decide) (X.1.2.2.2.2 _ q34) (fun _ h9 => h9) rfl hdg kk
theorem gx_f2 (X : XC p s m args c cc nL D h ca A) (hP : va_P D vwCl (wX h ca G E) H) (hdg : decode cc pc = .ok (.getfield 16, 3)) (kk : W p l e R s m args below meth c H locs cells slots Q (F0 m (pc + 3) ls (.ref (h 3) :: rest))) : W p l e R s m args below meth c H locs cells slots Q (F0 m pc ls (.ref (h 0) :: rest)) := va_get (D := D) (ci := 0) (v := .ref (h 3)) (C := RX0) (T := TX0) (N := 12) X.1.1 X.1.2.1 X.1.2.2.2.2 in_X0 X.1.2.2.2.1 X.2.1 hP 0 rfl rfl 2 (by decide) (X.1.2.2.2.2 _ q35) (fun _ h9 => h9) rfl hdg kk
theorem gx_f3 (X : XC p s m args c cc nL D h ca A) (hP : va_P D vwCl (wX h ca G E) H) (hdg : decode cc pc = .ok (.getfield 19, 3)) (kk : W p l e R s m args below meth c H locs cells slots Q (F0 m (pc + 3) ls (.ref (h 4) :: rest))) : W p l e R s m args below meth c H locs cells slots Q (F0 m pc ls (.ref (h 0) :: rest)) := va_get (D := D) (ci := 0) (v := .ref (h 4)) (C := RX0) (T := TX0) (N := 12) X.1.1 X.1.2.1 X.1.2.2.2.2 in_X0 X.1.2.2.2.1 X.2.1 hP 0 rfl rfl 3 (by decide) (X.1.2.2.2.2 _ q36) (fun _ h9 => h9) rfl hdg kk
theorem gx_f4 (X : XC p s m args c cc nL D h ca A) (hP : va_P D vwCl (wX h ca G E) H) (hdg : decode cc pc = .ok (.getfield 22, 3)) (kk : W p l e R s m args below meth c H locs cells slots Q (F0 m (pc + 3) ls (.ref (h 5) :: rest))) : W p l e R s m args below meth c H locs cells slots Q (F0 m pc ls (.ref (h 0) :: rest)) := va_get (D := D) (ci := 0) (v := .ref (h 5)) (C := RX0) (T := TX0) (N := 12) X.1.1 X.1.2.1 X.1.2.2.2.2 in_X0 X.1.2.2.2.1 X.2.1 hP 0 rfl rfl 4 (by decide) (X.1.2.2.2.2 _ q37) (fun _ h9 => h9) rfl hdg kk
theorem gx_f5 (X : XC p s m args c cc nL D h ca A) (hP : va_P D vwCl (wX h ca G E) H) (hdg : decode cc pc = .ok (.getfield 25, 3)) (kk : W p l e R s m args below meth c H locs cells slots Q (F0 m (pc + 3) ls (.ref (h 6) :: rest))) : W p l e R s m args below meth c H locs cells slots Q (F0 m pc ls (.ref (h 0) :: rest)) := va_get (D := D) (ci := 0) (v := .ref (h 6)) (C := RX0) (T := TX0) (N := 12) X.1.1 X.1.2.1 X.1.2.2.2.2 in_X0 X.1.2.2.2.1 X.2.1 hP 0 rfl rfl 5 (by decide) (X.1.2.2.2.2 _ q38) (fun _ h9 => h9) rfl hdg kk
theorem gx_f6 (X : XC p s m args c cc nL D h ca A) (hP : va_P D vwCl (wX h ca G E) H) (hdg : decode cc pc = .ok (.getfield 28, 3)) (kk : W p l e R s m args below meth c H locs cells slots Q (F0 m (pc + 3) ls (.ref (h 7) :: rest))) : W p l e R s m args below meth c H locs cells slots Q (F0 m pc ls (.ref (h 0) :: rest)) := va_get (D := D) (ci := 0) (v := .ref (h 7)) (C := RX0) (T := TX0) (N := 12) X.1.1 X.1.2.1 X.1.2.2.2.2 in_X0 X.1.2.2.2.1 X.2.1 hP 0 rfl rfl 6 (by decide) (X.1.2.2.2.2 _ q39) (fun _ h9 => h9) rfl hdg kk
theorem gx_f7 (X : XC p s m args c cc nL D h ca A) (hP : va_P D vwCl (wX h ca G E) H) (hdg : decode cc pc = .ok (.getfield 31, 3)) (kk : W p l e R s m args below meth c H locs cells slots Q (F0 m (pc + 3) ls (.ref (h 8) :: rest))) : W p l e R s m args below meth c H locs cells slots Q (F0 m pc ls (.ref (h 0) :: rest)) := va_get (D := D) (ci := 0) (v := .ref (h 8)) (C := RX0) (T := TX0) (N := 12) X.1.1 X.1.2.1 X.1.2.2.2.2 in_X0 X.1.2.2.2.1 X.2.1 hP 0 rfl rfl 7 (by decide) (X.1.2.2.2.2 _ q40) (fun _ h9 => h9) rfl hdg kk
theorem gx_f8 (X : XC p s m args c cc nL D h ca A) (hP : va_P D vwCl (wX h ca G E) H) (hdg : decode cc pc = .ok (.getfield 34, 3)) (kk : W p l e R s m args below meth c H locs cells slots Q (F0 m (pc + 3) ls (.ref (h 9) :: rest))) : W p l e R s m args below meth c H locs cells slots Q (F0 m pc ls (.ref (h 0) :: rest)) := va_get (D := D) (ci := 0) (v := .ref (h 9)) (C := RX0) (T := TX0) (N := 12) X.1.1 X.1.2.1 X.1.2.2.2.2 in_X0 X.1.2.2.2.1 X.2.1 hP 0 rfl rfl 8 (by decide) (X.1.2.2.2.2 _ q41) (fun _ h9 => h9) rfl hdg kk
theorem gx_f9 (X : XC p s m args c cc nL D h ca A) (hP : va_P D vwCl (wX h ca G E) H) (hdg : decode cc pc = .ok (.getfield 38, 3)) (kk : W p l e R s m args below meth c H locs cells slots Q (F0 m (pc + 3) ls (.int (nI (gCn G)) :: rest))) : W p l e R s m args below meth c H locs cells slots Q (F0 m pc ls (.ref (h 0) :: rest)) := va_get (D := D) (ci := 0) (v := .int (nI (gCn G))) (C := RX0) (T := TX0) (N := 12) X.1.1 X.1.2.1 X.1.2.2.2.2 in_X0 X.1.2.2.2.1 X.2.1 hP 0 rfl rfl 9 (by decide) (X.1.2.2.2.2 _ q42) (fun _ h9 => h9) rfl hdg kk
theorem gx_p9 (X : XC p s m args c cc nL D h ca A) (hP : va_P D vwCl (wX h ca G E) H) (hS : va_S A s.heap H locs) {v : Nat} (hdg : decode cc pc = .ok (.putfield 38, 3)) (kk : ∀ (H1 : Heap) (locs1 : List Loc), va_P D vwCl (wX h ca (sGCn G v) E) H1 → va_S A s.heap H1 locs1 → W p l e R s m args below meth c H1 locs1 cells slots Q (F0 m (pc + 3) ls rest)) : W p l e R s m args below meth c H locs cells slots Q (F0 m pc ls (.int (nI v) :: .ref (h 0) :: rest)) := va_put (D := D) (ci := 0) (v := .int (nI v)) (ty := .int) (C := RX0) (T := TX0) (N := 12) X.1.1 X.1.2.1 X.1.2.2.2.2 in_X0 tyX0 tyX0_ok nmX0 X.1.2.2.2.1 X.2.1 hP (X.2.2 G E) hS 0 rfl rfl 9 (by decide) (X.1.2.2.2.2 _ q42) (fun _ h9 => h9) rfl (by decide +kernel) rfl rfl (Nat.le_of_ble_eq_true rfl) hdg (fun H1 locs1 hP1 _ hS1 => kk H1 locs1 hP1 hS1)
theorem gx_f10 (X : XC p s m args c cc nL D h ca A) (hP : va_P D vwCl (wX h ca G E) H) (hdg : decode cc pc = .ok (.getfield 53, 3)) (kk : W p l e R s m args below meth c H locs cells slots Q (F0 m (pc + 3) ls (.int (nI (gSi G)) :: rest))) : W p l e R s m args below meth c H locs cells slots Q (F0 m pc ls (.ref (h 0) :: rest)) := va_get (D := D) (ci := 0) (v := .int (nI (gSi G))) (C := RX0) (T := TX0) (N := 12) X.1.1 X.1.2.1 X.1.2.2.2.2 in_X0 X.1.2.2.2.1 X.2.1 hP 0 rfl rfl 10 (by decide) (X.1.2.2.2.2 _ q43) (fun _ h9 => h9) rfl hdg kk
theorem gx_p10 (X : XC p s m args c cc nL D h ca A) (hP : va_P D vwCl (wX h ca G E) H) (hS : va_S A s.heap H locs) {v : Nat} (hdg : decode cc pc = .ok (.putfield 53, 3)) (kk : ∀ (H1 : Heap) (locs1 : List Loc), va_P D vwCl (wX h ca (sGSi G v) E) H1 → va_S A s.heap H1 locs1 → W p l e R s m args below meth c H1 locs1 cells slots Q (F0 m (pc + 3) ls rest)) : W p l e R s m args below meth c H locs cells slots Q (F0 m pc ls (.int (nI v) :: .ref (h 0) :: rest)) := va_put (D := D) (ci := 0) (v := .int (nI v)) (ty := .int) (C := RX0) (T := TX0) (N := 12) X.1.1 X.1.2.1 X.1.2.2.2.2 in_X0 tyX0 tyX0_ok nmX0 X.1.2.2.2.1 X.2.1 hP (X.2.2 G E) hS 0 rfl rfl 10 (by decide) (X.1.2.2.2.2 _ q43) (fun _ h9 => h9) rfl (by decide +kernel) rfl rfl (Nat.le_of_ble_eq_true rfl) hdg (fun H1 locs1 hP1 _ hS1 => kk H1 locs1 hP1 hS1)
theorem gx_f11 (X : XC p s m args c cc nL D h ca A) (hP : va_P D vwCl (wX h ca G E) H) (hdg : decode cc pc = .ok (.getfield 81, 3)) (kk : W p l e R s m args below meth c H locs cells slots Q (F0 m (pc + 3) ls (.int (nI (eN E)) :: rest))) : W p l e R s m args below meth c H locs cells slots Q (F0 m pc ls (.ref (h 0) :: rest)) := va_get (D := D) (ci := 0) (v := .int (nI (eN E))) (C := RX0) (T := TX0) (N := 12) X.1.1 X.1.2.1 X.1.2.2.2.2 in_X0 X.1.2.2.2.1 X.2.1 hP 0 rfl rfl 11 (by decide) (X.1.2.2.2.2 _ q44) (fun _ h9 => h9) rfl hdg kk
theorem gx_p11 (X : XC p s m args c cc nL D h ca A) (hP : va_P D vwCl (wX h ca G E) H) (hS : va_S A s.heap H locs) {v : Nat} (hdg : decode cc pc = .ok (.putfield 81, 3)) (kk : ∀ (H1 : Heap) (locs1 : List Loc), va_P D vwCl (wX h ca G (sEN E v)) H1 → va_S A s.heap H1 locs1 → W p l e R s m args below meth c H1 locs1 cells slots Q (F0 m (pc + 3) ls rest)) : W p l e R s m args below meth c H locs cells slots Q (F0 m pc ls (.int (nI v) :: .ref (h 0) :: rest)) := va_put (D := D) (ci := 0) (v := .int (nI v)) (ty := .int) (C := RX0) (T := TX0) (N := 12) X.1.1 X.1.2.1 X.1.2.2.2.2 in_X0 tyX0 tyX0_ok nmX0 X.1.2.2.2.1 X.2.1 hP (X.2.2 G E) hS 0 rfl rfl 11 (by decide) (X.1.2.2.2.2 _ q44) (fun _ h9 => h9) rfl (by decide +kernel) rfl rfl (Nat.le_of_ble_eq_true rfl) hdg (fun H1 locs1 hP1 _ hS1 => kk H1 locs1 hP1 hS1)
theorem gx_l1 (X : XC p s m args c cc nL D h ca A) (hP : va_P D vwCl (wX h ca G E) H) {i : Nat} (hi : i < 12) (hdg : decode cc pc = .ok (.iaload, 1)) (kk : W p l e R s m args below meth c H locs cells slots Q (F0 m (pc + 1) ls (.int (nI (gLf G i)) :: rest))) : W p l e R s m args below meth c H locs cells slots Q (F0 m pc ls (.int (nI i) :: .ref (h 1) :: rest)) := va_iald (f := nF (gLf G)) X.1.1 X.1.2.1 X.2.1 hP 1 0 rfl rfl (vp_in_nI hi (by decide)) hdg (by rw [nI_clamp (Nat.lt_trans hi (by decide))]; exact kk)
theorem gx_s1 (X : XC p s m args c cc nL D h ca A) (hP : va_P D vwCl (wX h ca G E) H) (hS : va_S A s.heap H locs) {i v : Nat} (hi : i < 12) (hdg : decode cc pc = .ok (.iastore, 1)) (kk : ∀ (H1 : Heap) (locs1 : List Loc), va_P D vwCl (wX h ca (sGLf G (va_up (gLf G) i v)) E) H1 → va_S A s.heap H1 locs1 → W p l e R s m args below meth c H1 locs1 cells slots Q (F0 m (pc + 1) ls rest)) : W p l e R s m args below meth c H locs cells slots Q (F0 m pc ls (.int (nI v) :: .int (nI i) :: .ref (h 1) :: rest)) := by
  have ez : upd (nF (gLf G)) (nI i).toNatClampNeg (nI v) = nF (va_up (gLf G) i v) := by rw [nI_clamp (Nat.lt_trans hi (by decide)), nF_up]
  refine va_iast (f := nF (gLf G)) X.1.1 X.1.2.1 X.2.1 hP (X.2.2 G E) hS 1 0 rfl rfl (vp_in_nI hi (by decide)) hdg (fun H1 locs1 hP1 _ hS1 => ?_)
  rw [ez] at hP1
  exact kk H1 locs1 hP1 hS1
theorem gx_l2 (X : XC p s m args c cc nL D h ca A) (hP : va_P D vwCl (wX h ca G E) H) {i : Nat} (hi : i < 36) (hdg : decode cc pc = .ok (.iaload, 1)) (kk : W p l e R s m args below meth c H locs cells slots Q (F0 m (pc + 1) ls (.int (nI (gRt G i)) :: rest))) : W p l e R s m args below meth c H locs cells slots Q (F0 m pc ls (.int (nI i) :: .ref (h 2) :: rest)) := va_iald (f := nF (gRt G)) X.1.1 X.1.2.1 X.2.1 hP 2 1 rfl rfl (vp_in_nI hi (by decide)) hdg (by rw [nI_clamp (Nat.lt_trans hi (by decide))]; exact kk)
theorem gx_s2 (X : XC p s m args c cc nL D h ca A) (hP : va_P D vwCl (wX h ca G E) H) (hS : va_S A s.heap H locs) {i v : Nat} (hi : i < 36) (hdg : decode cc pc = .ok (.iastore, 1)) (kk : ∀ (H1 : Heap) (locs1 : List Loc), va_P D vwCl (wX h ca (sGRt G (va_up (gRt G) i v)) E) H1 → va_S A s.heap H1 locs1 → W p l e R s m args below meth c H1 locs1 cells slots Q (F0 m (pc + 1) ls rest)) : W p l e R s m args below meth c H locs cells slots Q (F0 m pc ls (.int (nI v) :: .int (nI i) :: .ref (h 2) :: rest)) := by
  have ez : upd (nF (gRt G)) (nI i).toNatClampNeg (nI v) = nF (va_up (gRt G) i v) := by rw [nI_clamp (Nat.lt_trans hi (by decide)), nF_up]
  refine va_iast (f := nF (gRt G)) X.1.1 X.1.2.1 X.2.1 hP (X.2.2 G E) hS 2 1 rfl rfl (vp_in_nI hi (by decide)) hdg (fun H1 locs1 hP1 _ hS1 => ?_)
  rw [ez] at hP1
  exact kk H1 locs1 hP1 hS1
theorem gx_l3 (X : XC p s m args c cc nL D h ca A) (hP : va_P D vwCl (wX h ca G E) H) {i : Nat} (hi : i < 12) (hdg : decode cc pc = .ok (.iaload, 1)) (kk : W p l e R s m args below meth c H locs cells slots Q (F0 m (pc + 1) ls (.int (nI (gSz G i)) :: rest))) : W p l e R s m args below meth c H locs cells slots Q (F0 m pc ls (.int (nI i) :: .ref (h 3) :: rest)) := va_iald (f := nF (gSz G)) X.1.1 X.1.2.1 X.2.1 hP 3 2 rfl rfl (vp_in_nI hi (by decide)) hdg (by rw [nI_clamp (Nat.lt_trans hi (by decide))]; exact kk)
theorem gx_s3 (X : XC p s m args c cc nL D h ca A) (hP : va_P D vwCl (wX h ca G E) H) (hS : va_S A s.heap H locs) {i v : Nat} (hi : i < 12) (hdg : decode cc pc = .ok (.iastore, 1)) (kk : ∀ (H1 : Heap) (locs1 : List Loc), va_P D vwCl (wX h ca (sGSz G (va_up (gSz G) i v)) E) H1 → va_S A s.heap H1 locs1 → W p l e R s m args below meth c H1 locs1 cells slots Q (F0 m (pc + 1) ls rest)) : W p l e R s m args below meth c H locs cells slots Q (F0 m pc ls (.int (nI v) :: .int (nI i) :: .ref (h 3) :: rest)) := by
  have ez : upd (nF (gSz G)) (nI i).toNatClampNeg (nI v) = nF (va_up (gSz G) i v) := by rw [nI_clamp (Nat.lt_trans hi (by decide)), nF_up]
  refine va_iast (f := nF (gSz G)) X.1.1 X.1.2.1 X.2.1 hP (X.2.2 G E) hS 3 2 rfl rfl (vp_in_nI hi (by decide)) hdg (fun H1 locs1 hP1 _ hS1 => ?_)
  rw [ez] at hP1
  exact kk H1 locs1 hP1 hS1
theorem gx_l4 (X : XC p s m args c cc nL D h ca A) (hP : va_P D vwCl (wX h ca G E) H) {i : Nat} (hi : i < 9) (hdg : decode cc pc = .ok (.iaload, 1)) (kk : W p l e R s m args below meth c H locs cells slots Q (F0 m (pc + 1) ls (.int (nI (gTx G i)) :: rest))) : W p l e R s m args below meth c H locs cells slots Q (F0 m pc ls (.int (nI i) :: .ref (h 4) :: rest)) := va_iald (f := nF (gTx G)) X.1.1 X.1.2.1 X.2.1 hP 4 3 rfl rfl (vp_in_nI hi (by decide)) hdg (by rw [nI_clamp (Nat.lt_trans hi (by decide))]; exact kk)
theorem gx_s4 (X : XC p s m args c cc nL D h ca A) (hP : va_P D vwCl (wX h ca G E) H) (hS : va_S A s.heap H locs) {i v : Nat} (hi : i < 9) (hdg : decode cc pc = .ok (.iastore, 1)) (kk : ∀ (H1 : Heap) (locs1 : List Loc), va_P D vwCl (wX h ca (sGTx G (va_up (gTx G) i v)) E) H1 → va_S A s.heap H1 locs1 → W p l e R s m args below meth c H1 locs1 cells slots Q (F0 m (pc + 1) ls rest)) : W p l e R s m args below meth c H locs cells slots Q (F0 m pc ls (.int (nI v) :: .int (nI i) :: .ref (h 4) :: rest)) := by
  have ez : upd (nF (gTx G)) (nI i).toNatClampNeg (nI v) = nF (va_up (gTx G) i v) := by rw [nI_clamp (Nat.lt_trans hi (by decide)), nF_up]
  refine va_iast (f := nF (gTx G)) X.1.1 X.1.2.1 X.2.1 hP (X.2.2 G E) hS 4 3 rfl rfl (vp_in_nI hi (by decide)) hdg (fun H1 locs1 hP1 _ hS1 => ?_)
  rw [ez] at hP1
  exact kk H1 locs1 hP1 hS1
theorem gx_l5 (X : XC p s m args c cc nL D h ca A) (hP : va_P D vwCl (wX h ca G E) H) {i : Nat} (hi : i < 608) (hdg : decode cc pc = .ok (.iaload, 1)) (kk : W p l e R s m args below meth c H locs cells slots Q (F0 m (pc + 1) ls (.int (wd (eS E) i) :: rest))) : W p l e R s m args below meth c H locs cells slots Q (F0 m pc ls (.int (nI i) :: .ref (h 5) :: rest)) := va_iald (f := wd (eS E)) X.1.1 X.1.2.1 X.2.1 hP 5 4 rfl rfl (vp_in_nI hi (by decide)) hdg (by rw [nI_clamp (Nat.lt_trans hi (by decide))]; exact kk)
theorem gx_s5 (X : XC p s m args c cc nL D h ca A) (hP : va_P D vwCl (wX h ca G E) H) (hS : va_S A s.heap H locs) {i : Nat} {x : Int32} {S' : Nat → Bool} (hi : i < 608) (hz : upd (wd (eS E)) i x = wd S') (hdg : decode cc pc = .ok (.iastore, 1)) (kk : ∀ (H1 : Heap) (locs1 : List Loc), va_P D vwCl (wX h ca G (sES E (S'))) H1 → va_S A s.heap H1 locs1 → W p l e R s m args below meth c H1 locs1 cells slots Q (F0 m (pc + 1) ls rest)) : W p l e R s m args below meth c H locs cells slots Q (F0 m pc ls (.int x :: .int (nI i) :: .ref (h 5) :: rest)) := by
  have ez : upd (wd (eS E)) (nI i).toNatClampNeg x = wd S' := by rw [nI_clamp (Nat.lt_trans hi (by decide)), hz]
  refine va_iast (f := wd (eS E)) X.1.1 X.1.2.1 X.2.1 hP (X.2.2 G E) hS 5 4 rfl rfl (vp_in_nI hi (by decide)) hdg (fun H1 locs1 hP1 _ hS1 => ?_)
  rw [ez] at hP1
  exact kk H1 locs1 hP1 hS1
theorem gx_l6 (X : XC p s m args c cc nL D h ca A) (hP : va_P D vwCl (wX h ca G E) H) {i : Nat} (hi : i < 608) (hdg : decode cc pc = .ok (.iaload, 1)) (kk : W p l e R s m args below meth c H locs cells slots Q (F0 m (pc + 1) ls (.int (wd (eP E) i) :: rest))) : W p l e R s m args below meth c H locs cells slots Q (F0 m pc ls (.int (nI i) :: .ref (h 6) :: rest)) := va_iald (f := wd (eP E)) X.1.1 X.1.2.1 X.2.1 hP 6 5 rfl rfl (vp_in_nI hi (by decide)) hdg (by rw [nI_clamp (Nat.lt_trans hi (by decide))]; exact kk)
theorem gx_s6 (X : XC p s m args c cc nL D h ca A) (hP : va_P D vwCl (wX h ca G E) H) (hS : va_S A s.heap H locs) {i : Nat} {x : Int32} {S' : Nat → Bool} (hi : i < 608) (hz : upd (wd (eP E)) i x = wd S') (hdg : decode cc pc = .ok (.iastore, 1)) (kk : ∀ (H1 : Heap) (locs1 : List Loc), va_P D vwCl (wX h ca G (sEP E (S'))) H1 → va_S A s.heap H1 locs1 → W p l e R s m args below meth c H1 locs1 cells slots Q (F0 m (pc + 1) ls rest)) : W p l e R s m args below meth c H locs cells slots Q (F0 m pc ls (.int x :: .int (nI i) :: .ref (h 6) :: rest)) := by
  have ez : upd (wd (eP E)) (nI i).toNatClampNeg x = wd S' := by rw [nI_clamp (Nat.lt_trans hi (by decide)), hz]
  refine va_iast (f := wd (eP E)) X.1.1 X.1.2.1 X.2.1 hP (X.2.2 G E) hS 6 5 rfl rfl (vp_in_nI hi (by decide)) hdg (fun H1 locs1 hP1 _ hS1 => ?_)
  rw [ez] at hP1
  exact kk H1 locs1 hP1 hS1
theorem gx_l7 (X : XC p s m args c cc nL D h ca A) (hP : va_P D vwCl (wX h ca G E) H) {i : Nat} (hi : i < 3060) (hdg : decode cc pc = .ok (.iaload, 1)) (kk : W p l e R s m args below meth c H locs cells slots Q (F0 m (pc + 1) ls (.int (wd (eC E) i) :: rest))) : W p l e R s m args below meth c H locs cells slots Q (F0 m pc ls (.int (nI i) :: .ref (h 7) :: rest)) := va_iald (f := wd (eC E)) X.1.1 X.1.2.1 X.2.1 hP 7 6 rfl rfl (vp_in_nI hi (by decide)) hdg (by rw [nI_clamp (Nat.lt_trans hi (by decide))]; exact kk)
theorem gx_s7 (X : XC p s m args c cc nL D h ca A) (hP : va_P D vwCl (wX h ca G E) H) (hS : va_S A s.heap H locs) {i : Nat} {x : Int32} {S' : Nat → Bool} (hi : i < 3060) (hz : upd (wd (eC E)) i x = wd S') (hdg : decode cc pc = .ok (.iastore, 1)) (kk : ∀ (H1 : Heap) (locs1 : List Loc), va_P D vwCl (wX h ca G (sEC E (S'))) H1 → va_S A s.heap H1 locs1 → W p l e R s m args below meth c H1 locs1 cells slots Q (F0 m (pc + 1) ls rest)) : W p l e R s m args below meth c H locs cells slots Q (F0 m pc ls (.int x :: .int (nI i) :: .ref (h 7) :: rest)) := by
  have ez : upd (wd (eC E)) (nI i).toNatClampNeg x = wd S' := by rw [nI_clamp (Nat.lt_trans hi (by decide)), hz]
  refine va_iast (f := wd (eC E)) X.1.1 X.1.2.1 X.2.1 hP (X.2.2 G E) hS 7 6 rfl rfl (vp_in_nI hi (by decide)) hdg (fun H1 locs1 hP1 _ hS1 => ?_)
  rw [ez] at hP1
  exact kk H1 locs1 hP1 hS1
theorem gx_l8 (X : XC p s m args c cc nL D h ca A) (hP : va_P D vwCl (wX h ca G E) H) {i : Nat} (hi : i < 45) (hdg : decode cc pc = .ok (.iaload, 1)) (kk : W p l e R s m args below meth c H locs cells slots Q (F0 m (pc + 1) ls (.int (wd (eE E) i) :: rest))) : W p l e R s m args below meth c H locs cells slots Q (F0 m pc ls (.int (nI i) :: .ref (h 8) :: rest)) := va_iald (f := wd (eE E)) X.1.1 X.1.2.1 X.2.1 hP 8 7 rfl rfl (vp_in_nI hi (by decide)) hdg (by rw [nI_clamp (Nat.lt_trans hi (by decide))]; exact kk)
theorem gx_s8 (X : XC p s m args c cc nL D h ca A) (hP : va_P D vwCl (wX h ca G E) H) (hS : va_S A s.heap H locs) {i : Nat} {x : Int32} {S' : Nat → Bool} (hi : i < 45) (hz : upd (wd (eE E)) i x = wd S') (hdg : decode cc pc = .ok (.iastore, 1)) (kk : ∀ (H1 : Heap) (locs1 : List Loc), va_P D vwCl (wX h ca G (sEE E (S'))) H1 → va_S A s.heap H1 locs1 → W p l e R s m args below meth c H1 locs1 cells slots Q (F0 m (pc + 1) ls rest)) : W p l e R s m args below meth c H locs cells slots Q (F0 m pc ls (.int x :: .int (nI i) :: .ref (h 8) :: rest)) := by
  have ez : upd (wd (eE E)) (nI i).toNatClampNeg x = wd S' := by rw [nI_clamp (Nat.lt_trans hi (by decide)), hz]
  refine va_iast (f := wd (eE E)) X.1.1 X.1.2.1 X.2.1 hP (X.2.2 G E) hS 8 7 rfl rfl (vp_in_nI hi (by decide)) hdg (fun H1 locs1 hP1 _ hS1 => ?_)
  rw [ez] at hP1
  exact kk H1 locs1 hP1 hS1
theorem gx_l9 (X : XC p s m args c cc nL D h ca A) (hP : va_P D vwCl (wX h ca G E) H) {i : Nat} (hi : i < 45) (hdg : decode cc pc = .ok (.baload, 1)) (kk : W p l e R s m args below meth c H locs cells slots Q (F0 m (pc + 1) ls (.int (nI (eO E i).toNat) :: rest))) : W p l e R s m args below meth c H locs cells slots Q (F0 m pc ls (.int (nI i) :: .ref (h 9) :: rest)) := va_zald (f := zF (eO E)) X.1.1 X.1.2.1 X.2.1 hP 9 8 rfl rfl (vp_in_nI hi (by decide)) hdg (by rw [nI_clamp (Nat.lt_trans hi (by decide))]; exact kk)
theorem gx_s9 (X : XC p s m args c cc nL D h ca A) (hP : va_P D vwCl (wX h ca G E) H) (hS : va_S A s.heap H locs) {i : Nat} (b : Bool) {x : Int32} (hi : i < 45) (hxb : x = nI b.toNat) (hdg : decode cc pc = .ok (.bastore, 1)) (kk : ∀ (H1 : Heap) (locs1 : List Loc), va_P D vwCl (wX h ca G (sEO E (va_up (eO E) i b))) H1 → va_S A s.heap H1 locs1 → W p l e R s m args below meth c H1 locs1 cells slots Q (F0 m (pc + 1) ls rest)) : W p l e R s m args below meth c H locs cells slots Q (F0 m pc ls (.int x :: .int (nI i) :: .ref (h 9) :: rest)) := by
  subst hxb
  have ez : upd (zF (eO E)) (nI i).toNatClampNeg (vp_nar .boolean (nI b.toNat)) = zF (va_up (eO E) i b) := by rw [nI_clamp (Nat.lt_trans hi (by decide)), nI_bv, zF_up]
  refine va_zast (f := zF (eO E)) X.1.1 X.1.2.1 X.2.1 hP (X.2.2 G E) hS 9 8 rfl rfl (vp_in_nI hi (by decide)) hdg (fun H1 locs1 hP1 _ hS1 => ?_)
  rw [ez] at hP1
  exact kk H1 locs1 hP1 hS1
theorem gx_callv (X : XC p s m args c cc nL D h ca A) {y : MethodName} {bytes : ByteArray} {maxL fr lo idx n : Nat} {As st : List Value} {post : GG × EE → Prop} (hM : Met l y (ws_ y bytes maxL none) ({ frames := fr, cells := 0, slots := 0, locals := lo }) (PX D h ca A G E As) (va_Qv post (BX D h ca) A) 0 0 (A)) (hw : GoodIn lw_all (wsV RX0 idx RX0 y (ws_ y bytes maxL none))) (hd : y.cls = RX0 ∧ y.cls ≠ "java/lang/invoke/MethodHandle" ∧ y.cls ≠ "java/lang/invoke/VarHandle" ∧ (parseMethodDescriptor y.desc).map (fun d => d.parameters.length) = some n) (hR : fr + 1 ≤ R.frames ∧ 8 + (maxL + 11) + lo ≤ R.locals) (hP : va_P D vwCl (wX h ca G E) H) (hS : va_S A s.heap H locs) (hn : As.length = n) (hz : ls.size = nL) (hst : st = As.reverse ++ .ref (h 0) :: rest) (hrm : (rest.map fun v => v.category).sum ≤ 8) (hdg : decode cc pc = .ok (.invokevirtual idx, 3)) (kk : ∀ (u : GG × EE) (H1 : Heap) (locs1 : List Loc), post u → va_P D vwCl (wX h ca u.1 u.2) H1 → va_S A s.heap H1 locs1 → W p l e R s m args below meth c H1 locs1 0 0 Q (F0 m (pc + 3) ls rest)) : W p l e R s m args below meth c H locs 0 0 Q (F0 m pc ls st) := by
  refine va_callv (va_runV X.1 hM (cwV n X.1.2.2.2.2 hw rfl rfl rfl hd hR) ⟨fun a U g mk q => by obtain ⟨q0, qP, qK, qD⟩ := q; exact ⟨q0, qP, va_K.moved (u := U) (U := U.calling g mk a) (Vm.Alike.refl U.vm) qK, qD⟩, va_recv X.2.1 hP (ci := 0) (q0 := 0) rfl rfl, fun U hU hW => ⟨rfl, by rw [hU]; exact hP, va_K.moved hW.alike X.2.1, X.2.2 G E⟩⟩ rfl hn hz hst (lv_room hrm) hdg ⟨Nat.zero_le _, Nat.zero_le _⟩) hS (fun q _ hq => hq) (fun q hq => hq) (fun u t H1 locs1 ht hvm hpost hB hz1 hk1 hS1 => ?_)
  exact kk u H1 locs1 hpost (by rw [← ht]; exact hB) hS1
theorem gx_calli (X : XC p s m args c cc nL D h ca A) {y : MethodName} {bytes : ByteArray} {maxL fr lo idx n : Nat} {As st : List Value} {ty : FieldType} {post : Int32 → GG × EE → Prop} (hM : Met l y (ws_ y bytes maxL (some ty)) ({ frames := fr, cells := 0, slots := 0, locals := lo }) (PX D h ca A G E As) (va_Qi post (BX D h ca) A) 0 0 (A)) (hw : GoodIn lw_all (wsV RX0 idx RX0 y (ws_ y bytes maxL (some ty)))) (hd : y.cls = RX0 ∧ y.cls ≠ "java/lang/invoke/MethodHandle" ∧ y.cls ≠ "java/lang/invoke/VarHandle" ∧ (parseMethodDescriptor y.desc).map (fun d => d.parameters.length) = some n) (hR : fr + 1 ≤ R.frames ∧ 8 + (maxL + 11) + lo ≤ R.locals) (hP : va_P D vwCl (wX h ca G E) H) (hS : va_S A s.heap H locs) (hn : As.length = n) (hz : ls.size = nL) (hst : st = As.reverse ++ .ref (h 0) :: rest) (hrm : (rest.map fun v => v.category).sum ≤ 8) (hdg : decode cc pc = .ok (.invokevirtual idx, 3)) (kk : ∀ (r : Int32) (u : GG × EE) (H1 : Heap) (locs1 : List Loc), post r u → va_P D vwCl (wX h ca u.1 u.2) H1 → va_S A s.heap H1 locs1 → W p l e R s m args below meth c H1 locs1 0 0 Q (F0 m (pc + 3) ls (.int r :: rest))) : W p l e R s m args below meth c H locs 0 0 Q (F0 m pc ls st) := by
  refine va_calli (va_runV X.1 hM (cwV n X.1.2.2.2.2 hw rfl rfl rfl hd hR) ⟨fun a U g mk q => by obtain ⟨q0, qP, qK, qD⟩ := q; exact ⟨q0, qP, va_K.moved (u := U) (U := U.calling g mk a) (Vm.Alike.refl U.vm) qK, qD⟩, va_recv X.2.1 hP (ci := 0) (q0 := 0) rfl rfl, fun U hU hW => ⟨rfl, by rw [hU]; exact hP, va_K.moved hW.alike X.2.1, X.2.2 G E⟩⟩ rfl hn hz hst (lv_room hrm) hdg ⟨Nat.zero_le _, Nat.zero_le _⟩) hS (fun q _ hq => hq) (fun q hq => hq) (fun r u t H1 locs1 ht hvm hpost hB hz1 hk1 hS1 => ?_)
  exact kk r u H1 locs1 hpost (by rw [← ht]; exact hB) hS1
theorem gx_callS (X : XC p s m args c cc nL D h ca A) {y : MethodName} {bytes : ByteArray} {maxL fr lo idx n : Nat} {As st : List Value} {ty : FieldType} {post : Int32 → Prop} (hM : Met l y (ws_ y bytes maxL (some ty)) ({ frames := fr, cells := 0, slots := 0, locals := lo }) (PX D h ca A G E As) (vp_Si post) 0 0 (fun _ => False)) (hw : GoodIn lw_all (wsV RX0 idx RX0 y (ws_ y bytes maxL (some ty)))) (hd : y.cls = RX0 ∧ y.cls ≠ "java/lang/invoke/MethodHandle" ∧ y.cls ≠ "java/lang/invoke/VarHandle" ∧ (parseMethodDescriptor y.desc).map (fun d => d.parameters.length) = some n) (hR : fr + 1 ≤ R.frames ∧ 8 + (maxL + 11) + lo ≤ R.locals) (hP : va_P D vwCl (wX h ca G E) H) (hS : va_S A s.heap H locs) (hn : As.length = n) (hz : ls.size = nL) (hst : st = As.reverse ++ .ref (h 0) :: rest) (hrm : (rest.map fun v => v.category).sum ≤ 8) (hdg : decode cc pc = .ok (.invokevirtual idx, 3)) (kk : ∀ r : Int32, post r → W p l e R s m args below meth c H locs 0 0 Q (F0 m (pc + 3) ls (.int r :: rest))) : W p l e R s m args below meth c H locs 0 0 Q (F0 m pc ls st) := by
  refine vp_callSi (W.runV X.1 hM (cwV n X.1.2.2.2.2 hw rfl rfl rfl hd hR) ⟨fun a U g mk q => by obtain ⟨q0, qP, qK, qD⟩ := q; exact ⟨q0, qP, va_K.moved (u := U) (U := U.calling g mk a) (Vm.Alike.refl U.vm) qK, qD⟩, va_recv X.2.1 hP (ci := 0) (q0 := 0) rfl rfl, fun U hU hW => ⟨rfl, by rw [hU]; exact hP, va_K.moved hW.alike X.2.1, X.2.2 G E⟩⟩ rfl hn hz hst (lv_room hrm) hdg ⟨Nat.zero_le _, Nat.zero_le _⟩) (fun r hpost => ?_)
  exact kk r hpost
end WX
theorem gx_entv {l : Launch} {y : MethodName} {cc : ByteArray} {nL fr lo : Nat} {D : va_G} {h : Nat → Nat} {ca : Nat → ClassId} {A : Nat → Prop} {G : GG} {E : EE} {As : List Value} {post : GG × EE → Prop} (hy : plainName y.cls = true) (hc : y.cls = RX0) (hlen : (lg_sl (Value.ref (h 0) :: As)).length ≤ nL) (body : ∀ (p : Program) (e : Env) (s : State) (m : MethodId) (below : List Frame) (meth : Method) (c : Code) (R : Room) (Q : State → Prop), fr ≤ R.frames → lo ≤ R.locals → XC p s m (Value.ref (h 0) :: As).toArray c cc nL D h ca A → (∀ (u : GG × EE) (H : Heap) (locs : List Loc) (pc : Nat) (ls : Array Slot), decode cc pc = .ok (.return_, 1) → va_P D vwCl (wX h ca u.1 u.2) H → va_S A s.heap H locs → post u → W p l e R s m (Value.ref (h 0) :: As).toArray below meth c H locs 0 0 Q (F0 m pc ls [])) → ∀ (H : Heap) (locs : List Loc) (ls : Array Slot), va_P D vwCl (wX h ca G E) H → va_S A s.heap H locs → lv_has ls nL (lv_args 0 (Value.ref (h 0) :: As)) → W p l e R s m (Value.ref (h 0) :: As).toArray below meth c H locs 0 0 Q (F0 m 0 ls [])) : Met l y (ws_ y cc nL none) ({ frames := fr, cells := 0, slots := 0, locals := lo }) (PX D h ca A G E As) (va_Qv post (BX D h ca) A) 0 0 (A) := by
  refine Met.ofW (cc := cc) (maxL := nL) (ret := none) hy rfl ?_
  intro p e s m args below meth c s₁ B hml hv
  obtain ⟨rfl, hP, hK, hD⟩ := hv
  have hx := B.exec
  have hb := B.bytes
  have hr := B.returns
  have hts := atoms_spec (ws := ws_ y cc nL none) B.pre
  have hts : ∀ w ∈ lw_all, w.before _ s = true := fun w hw => hts w (List.mem_cons_of_mem _ hw)
  have hown : s.vm.findClass RX0 = some m.cls := hc ▸ findClass_of_methodNamed B.named
  have hlocks := B.notSynchronized
  have hl := lv_entry (Value.ref (h 0) :: As) (n := nL) hlen
  rw [lg_entry_eq]
  generalize (lg_sl (Value.ref (h 0) :: As) ++ List.replicate (nL - (lg_sl (Value.ref (h 0) :: As)).length) Slot.unset).toArray = ls at hl ⊢
  exact body p e s m below meth c _ _ (Nat.le_refl _) (Nat.le_refl _) ⟨⟨hx, hb, hml, hown, hts⟩, hK, fun G1 E1 => gp_Dmap (ws := wX h ca G E) (ws' := wX h ca G1 E1) rfl hD⟩ (fun u H locs pc ls hdg hP hS hq => W.vret hx hb hr (fun t ht hW => ⟨⟨u, rfl, hq, by show va_P _ _ _ t.heap; rw [ht]; exact hP⟩, hS.F ht⟩) hS.2.2 hdg) _ _ _ hP va_S.rf hl
theorem gx_enti {l : Launch} {y : MethodName} {cc : ByteArray} {nL fr lo : Nat} {D : va_G} {h : Nat → Nat} {ca : Nat → ClassId} {A : Nat → Prop} {G : GG} {E : EE} {As : List Value} {ty : FieldType} {post : Int32 → GG × EE → Prop} (hy : plainName y.cls = true) (hc : y.cls = RX0) (hlen : (lg_sl (Value.ref (h 0) :: As)).length ≤ nL) (body : ∀ (p : Program) (e : Env) (s : State) (m : MethodId) (below : List Frame) (meth : Method) (c : Code) (R : Room) (Q : State → Prop), fr ≤ R.frames → lo ≤ R.locals → XC p s m (Value.ref (h 0) :: As).toArray c cc nL D h ca A → (∀ (r : Int32) (u : GG × EE) (H : Heap) (locs : List Loc) (pc : Nat) (ls : Array Slot), decode cc pc = .ok (.ireturn, 1) → narrow ty (.int r) = .int r → va_P D vwCl (wX h ca u.1 u.2) H → va_S A s.heap H locs → post r u → W p l e R s m (Value.ref (h 0) :: As).toArray below meth c H locs 0 0 Q (F0 m pc ls [.int r])) → ∀ (H : Heap) (locs : List Loc) (ls : Array Slot), va_P D vwCl (wX h ca G E) H → va_S A s.heap H locs → lv_has ls nL (lv_args 0 (Value.ref (h 0) :: As)) → W p l e R s m (Value.ref (h 0) :: As).toArray below meth c H locs 0 0 Q (F0 m 0 ls [])) : Met l y (ws_ y cc nL (some ty)) ({ frames := fr, cells := 0, slots := 0, locals := lo }) (PX D h ca A G E As) (va_Qi post (BX D h ca) A) 0 0 (A) := by
  refine Met.ofW (cc := cc) (maxL := nL) (ret := (some ty)) hy rfl ?_
  intro p e s m args below meth c s₁ B hml hv
  obtain ⟨rfl, hP, hK, hD⟩ := hv
  have hx := B.exec
  have hb := B.bytes
  have hr := B.returns
  have hts := atoms_spec (ws := ws_ y cc nL (some ty)) B.pre
  have hts : ∀ w ∈ lw_all, w.before _ s = true := fun w hw => hts w (List.mem_cons_of_mem _ hw)
  have hown : s.vm.findClass RX0 = some m.cls := hc ▸ findClass_of_methodNamed B.named
  have hlocks := B.notSynchronized
  have hl := lv_entry (Value.ref (h 0) :: As) (n := nL) hlen
  rw [lg_entry_eq]
  generalize (lg_sl (Value.ref (h 0) :: As) ++ List.replicate (nL - (lg_sl (Value.ref (h 0) :: As)).length) Slot.unset).toArray = ls at hl ⊢
  exact body p e s m below meth c _ _ (Nat.le_refl _) (Nat.le_refl _) ⟨⟨hx, hb, hml, hown, hts⟩, hK, fun G1 E1 => gp_Dmap (ws := wX h ca G E) (ws' := wX h ca G1 E1) rfl hD⟩ (fun r u H locs pc ls hdg hn hP hS hq => W.zret hx hb hr hn (fun t ht hW => ⟨⟨r, u, rfl, hq, by show va_P _ _ _ t.heap; rw [ht]; exact hP⟩, hS.F ht⟩) hS.2.2 hdg) _ _ _ hP va_S.rf hl
theorem gx_entS {l : Launch} {y : MethodName} {cc : ByteArray} {nL fr lo : Nat} {D : va_G} {h : Nat → Nat} {ca : Nat → ClassId} {A : Nat → Prop} {G : GG} {E : EE} {As : List Value} {ty : FieldType} {post : Int32 → Prop} (hy : plainName y.cls = true) (hc : y.cls = RX0) (hlen : (lg_sl (Value.ref (h 0) :: As)).length ≤ nL) (body : ∀ (p : Program) (e : Env) (s : State) (m : MethodId) (below : List Frame) (meth : Method) (c : Code) (R : Room) (Q : State → Prop), fr ≤ R.frames → lo ≤ R.locals → XC p s m (Value.ref (h 0) :: As).toArray c cc nL D h ca A → (∀ (r : Int32) (pc : Nat) (ls : Array Slot), decode cc pc = .ok (.ireturn, 1) → narrow ty (.int r) = .int r → post r → W p l e R s m (Value.ref (h 0) :: As).toArray below meth c s.heap [] 0 0 Q (F0 m pc ls [.int r])) → ∀ (ls : Array Slot), va_P D vwCl (wX h ca G E) s.heap → va_S A s.heap s.heap [] → lv_has ls nL (lv_args 0 (Value.ref (h 0) :: As)) → W p l e R s m (Value.ref (h 0) :: As).toArray below meth c s.heap [] 0 0 Q (F0 m 0 ls [])) : Met l y (ws_ y cc nL (some ty)) ({ frames := fr, cells := 0, slots := 0, locals := lo }) (PX D h ca A G E As) (vp_Si post) 0 0 (fun _ => False) := by
  refine Met.ofW (cc := cc) (maxL := nL) (ret := (some ty)) hy rfl ?_
  intro p e s m args below meth c s₁ B hml hv
  obtain ⟨rfl, hP, hK, hD⟩ := hv
  have hx := B.exec
  have hb := B.bytes
  have hr := B.returns
  have hts := atoms_spec (ws := ws_ y cc nL (some ty)) B.pre
  have hts : ∀ w ∈ lw_all, w.before _ s = true := fun w hw => hts w (List.mem_cons_of_mem _ hw)
  have hown : s.vm.findClass RX0 = some m.cls := hc ▸ findClass_of_methodNamed B.named
  have hlocks := B.notSynchronized
  have hl := lv_entry (Value.ref (h 0) :: As) (n := nL) hlen
  rw [lg_entry_eq]
  generalize (lg_sl (Value.ref (h 0) :: As) ++ List.replicate (nL - (lg_sl (Value.ref (h 0) :: As)).length) Slot.unset).toArray = ls at hl ⊢
  exact body p e s m below meth c _ _ (Nat.le_refl _) (Nat.le_refl _) ⟨⟨hx, hb, hml, hown, hts⟩, hK, fun G1 E1 => gp_Dmap (ws := wX h ca G E) (ws' := wX h ca G1 E1) rfl hD⟩ (fun r pc ls hdg hn hq => W.zret hx hb hr hn (fun t ht hW => ⟨r, rfl, hq, ht⟩) (fun _ h9 => by cases h9) hdg) _ hP va_S.rf hl
abbrev wM (h : Nat → Nat) (ca : Nat → ClassId) (M : MM) : va_W := [(h 0, .inr (1, [.int (nI (mCn M)), .ref (h 1), .ref (h 2), .int (nI (mLn M)), .ref (h 3), .ref (h 4)])), (h 1, .inl (ca 1, 12, .inl (nF (mLf M)))), (h 2, .inl (ca 2, 12, .inl (nF (mRt M)))), (h 3, .inl (ca 3, 8, .inl (nF (mTx M)))), (h 4, .inl (ca 4, 405, .inl (zF (mT M))))]
abbrev tM (ca : Nat → ClassId) : List (ClassId × FieldType) := [(ca 1, .int), (ca 2, .int), (ca 3, .int), (ca 4, .boolean)]
def MC (p : Program) (s : State) (m : MethodId) (args : Array Value) (c : Code) (cc : ByteArray) (nL : Nat) (D : va_G) (h : Nat → Nat) (ca : Nat → ClassId) (A : Nat → Prop) : Prop := CallFix p m c cc nL s args lw_all RX1 ∧ va_K D vwCl (tM ca) s ∧ ∀ (M : MM), va_D A (wM h ca M)
abbrev PM (D : va_G) (h : Nat → Nat) (ca : Nat → ClassId) (A : Nat → Prop) (M : MM) (As : List Value) : Array Value → State → Prop := va_Pc (.ref (h 0) :: As) (fun U => va_P D vwCl (wM h ca M) U.heap ∧ va_K D vwCl (tM ca) U ∧ va_D A (wM h ca M))
abbrev BM (D : va_G) (h : Nat → Nat) (ca : Nat → ClassId) : MM → State → Prop := fun u t => va_P D vwCl (wM h ca u) t.heap
section WM
variable {p : Program} {l : Launch} {e : Env} {R : Room} {s : State} {m : MethodId} {args : Array Value} {below : List Frame} {meth : Method} {c : Code} {H : Heap} {locs : List Loc} {cells slots : Nat} {Q : State → Prop}
variable {cc : ByteArray} {pc nL : Nat} {ls : Array Slot} {rest : List Value} {D : va_G} {h : Nat → Nat} {ca : Nat → ClassId} {A : Nat → Prop}
variable {M : MM}
theorem gm_f0 (X : MC p s m args c cc nL D h ca A) (hP : va_P D vwCl (wM h ca M) H) (hdg : decode cc pc = .ok (.getfield 27, 3)) (kk : W p l e R s m args below meth c H locs cells slots Q (F0 m (pc + 3) ls (.int (nI (mCn M)) :: rest))) : W p l e R s m args below meth c H locs cells slots Q (F0 m pc ls (.ref (h 0) :: rest)) := va_get (D := D) (ci := 1) (v := .int (nI (mCn M))) (C := RX1) (T := TX1) (N := 6) X.1.1 X.1.2.1 X.1.2.2.2.2 in_X1 X.1.2.2.2.1 X.2.1 hP 0 rfl rfl 0 (by decide) (X.1.2.2.2.2 _ q203) (fun _ h9 => h9) rfl hdg kk
theorem gm_p0 (X : MC p s m args c cc nL D h ca A) (hP : va_P D vwCl (wM h ca M) H) (hS : va_S A s.heap H locs) {v : Nat} (hdg : decode cc pc = .ok (.putfield 27, 3)) (kk : ∀ (H1 : Heap) (locs1 : List Loc), va_P D vwCl (wM h ca (sMCn M v)) H1 → va_S A s.heap H1 locs1 → W p l e R s m args below meth c H1 locs1 cells slots Q (F0 m (pc + 3) ls rest)) : W p l e R s m args below meth c H locs cells slots Q (F0 m pc ls (.int (nI v) :: .ref (h 0) :: rest)) := va_put (D := D) (ci := 1) (v := .int (nI v)) (ty := .int) (C := RX1) (T := TX1) (N := 6) X.1.1 X.1.2.1 X.1.2.2.2.2 in_X1 tyX1 tyX1_ok nmX1 X.1.2.2.2.1 X.2.1 hP (X.2.2 M) hS 0 rfl rfl 0 (by decide) (X.1.2.2.2.2 _ q203) (fun _ h9 => h9) rfl (by decide +kernel) rfl rfl (Nat.le_of_ble_eq_true rfl) hdg (fun H1 locs1 hP1 _ hS1 => kk H1 locs1 hP1 hS1)
theorem gm_f1 (X : MC p s m args c cc nL D h ca A) (hP : va_P D vwCl (wM h ca M) H) (hdg : decode cc pc = .ok (.getfield 7, 3)) (kk : W p l e R s m args below meth c H locs cells slots Q (F0 m (pc + 3) ls (.ref (h 1) :: rest))) : W p l e R s m args below meth c H locs cells slots Q (F0 m pc ls (.ref (h 0) :: rest)) := va_get (D := D) (ci := 1) (v := .ref (h 1)) (C := RX1) (T := TX1) (N := 6) X.1.1 X.1.2.1 X.1.2.2.2.2 in_X1 X.1.2.2.2.1 X.2.1 hP 0 rfl rfl 1 (by decide) (X.1.2.2.2.2 _ q204) (fun _ h9 => h9) rfl hdg kk
theorem gm_f2 (X : MC p s m args c cc nL D h ca A) (hP : va_P D vwCl (wM h ca M) H) (hdg : decode cc pc = .ok (.getfield 13, 3)) (kk : W p l e R s m args below meth c H locs cells slots Q (F0 m (pc + 3) ls (.ref (h 2) :: rest))) : W p l e R s m args below meth c H locs cells slots Q (F0 m pc ls (.ref (h 0) :: rest)) := va_get (D := D) (ci := 1) (v := .ref (h 2)) (C := RX1) (T := TX1) (N := 6) X.1.1 X.1.2.1 X.1.2.2.2.2 in_X1 X.1.2.2.2.1 X.2.1 hP 0 rfl rfl 2 (by decide) (X.1.2.2.2.2 _ q205) (fun _ h9 => h9) rfl hdg kk
theorem gm_f3 (X : MC p s m args c cc nL D h ca A) (hP : va_P D vwCl (wM h ca M) H) (hdg : decode cc pc = .ok (.getfield 34, 3)) (kk : W p l e R s m args below meth c H locs cells slots Q (F0 m (pc + 3) ls (.int (nI (mLn M)) :: rest))) : W p l e R s m args below meth c H locs cells slots Q (F0 m pc ls (.ref (h 0) :: rest)) := va_get (D := D) (ci := 1) (v := .int (nI (mLn M))) (C := RX1) (T := TX1) (N := 6) X.1.1 X.1.2.1 X.1.2.2.2.2 in_X1 X.1.2.2.2.1 X.2.1 hP 0 rfl rfl 3 (by decide) (X.1.2.2.2.2 _ q206) (fun _ h9 => h9) rfl hdg kk
theorem gm_p3 (X : MC p s m args c cc nL D h ca A) (hP : va_P D vwCl (wM h ca M) H) (hS : va_S A s.heap H locs) {v : Nat} (hdg : decode cc pc = .ok (.putfield 34, 3)) (kk : ∀ (H1 : Heap) (locs1 : List Loc), va_P D vwCl (wM h ca (sMLn M v)) H1 → va_S A s.heap H1 locs1 → W p l e R s m args below meth c H1 locs1 cells slots Q (F0 m (pc + 3) ls rest)) : W p l e R s m args below meth c H locs cells slots Q (F0 m pc ls (.int (nI v) :: .ref (h 0) :: rest)) := va_put (D := D) (ci := 1) (v := .int (nI v)) (ty := .int) (C := RX1) (T := TX1) (N := 6) X.1.1 X.1.2.1 X.1.2.2.2.2 in_X1 tyX1 tyX1_ok nmX1 X.1.2.2.2.1 X.2.1 hP (X.2.2 M) hS 0 rfl rfl 3 (by decide) (X.1.2.2.2.2 _ q206) (fun _ h9 => h9) rfl (by decide +kernel) rfl rfl (Nat.le_of_ble_eq_true rfl) hdg (fun H1 locs1 hP1 _ hS1 => kk H1 locs1 hP1 hS1)
theorem gm_f4 (X : MC p s m args c cc nL D h ca A) (hP : va_P D vwCl (wM h ca M) H) (hdg : decode cc pc = .ok (.getfield 16, 3)) (kk : W p l e R s m args below meth c H locs cells slots Q (F0 m (pc + 3) ls (.ref (h 3) :: rest))) : W p l e R s m args below meth c H locs cells slots Q (F0 m pc ls (.ref (h 0) :: rest)) := va_get (D := D) (ci := 1) (v := .ref (h 3)) (C := RX1) (T := TX1) (N := 6) X.1.1 X.1.2.1 X.1.2.2.2.2 in_X1 X.1.2.2.2.1 X.2.1 hP 0 rfl rfl 4 (by decide) (X.1.2.2.2.2 _ q207) (fun _ h9 => h9) rfl hdg kk
theorem gm_f5 (X : MC p s m args c cc nL D h ca A) (hP : va_P D vwCl (wM h ca M) H) (hdg : decode cc pc = .ok (.getfield 19, 3)) (kk : W p l e R s m args below meth c H locs cells slots Q (F0 m (pc + 3) ls (.ref (h 4) :: rest))) : W p l e R s m args below meth c H locs cells slots Q (F0 m pc ls (.ref (h 0) :: rest)) := va_get (D := D) (ci := 1) (v := .ref (h 4)) (C := RX1) (T := TX1) (N := 6) X.1.1 X.1.2.1 X.1.2.2.2.2 in_X1 X.1.2.2.2.1 X.2.1 hP 0 rfl rfl 5 (by decide) (X.1.2.2.2.2 _ q208) (fun _ h9 => h9) rfl hdg kk
theorem gm_l1 (X : MC p s m args c cc nL D h ca A) (hP : va_P D vwCl (wM h ca M) H) {i : Nat} (hi : i < 12) (hdg : decode cc pc = .ok (.iaload, 1)) (kk : W p l e R s m args below meth c H locs cells slots Q (F0 m (pc + 1) ls (.int (nI (mLf M i)) :: rest))) : W p l e R s m args below meth c H locs cells slots Q (F0 m pc ls (.int (nI i) :: .ref (h 1) :: rest)) := va_iald (f := nF (mLf M)) X.1.1 X.1.2.1 X.2.1 hP 1 0 rfl rfl (vp_in_nI hi (by decide)) hdg (by rw [nI_clamp (Nat.lt_trans hi (by decide))]; exact kk)
theorem gm_s1 (X : MC p s m args c cc nL D h ca A) (hP : va_P D vwCl (wM h ca M) H) (hS : va_S A s.heap H locs) {i v : Nat} (hi : i < 12) (hdg : decode cc pc = .ok (.iastore, 1)) (kk : ∀ (H1 : Heap) (locs1 : List Loc), va_P D vwCl (wM h ca (sMLf M (va_up (mLf M) i v))) H1 → va_S A s.heap H1 locs1 → W p l e R s m args below meth c H1 locs1 cells slots Q (F0 m (pc + 1) ls rest)) : W p l e R s m args below meth c H locs cells slots Q (F0 m pc ls (.int (nI v) :: .int (nI i) :: .ref (h 1) :: rest)) := by
  have ez : upd (nF (mLf M)) (nI i).toNatClampNeg (nI v) = nF (va_up (mLf M) i v) := by rw [nI_clamp (Nat.lt_trans hi (by decide)), nF_up]
  refine va_iast (f := nF (mLf M)) X.1.1 X.1.2.1 X.2.1 hP (X.2.2 M) hS 1 0 rfl rfl (vp_in_nI hi (by decide)) hdg (fun H1 locs1 hP1 _ hS1 => ?_)
  rw [ez] at hP1
  exact kk H1 locs1 hP1 hS1
theorem gm_l2 (X : MC p s m args c cc nL D h ca A) (hP : va_P D vwCl (wM h ca M) H) {i : Nat} (hi : i < 12) (hdg : decode cc pc = .ok (.iaload, 1)) (kk : W p l e R s m args below meth c H locs cells slots Q (F0 m (pc + 1) ls (.int (nI (mRt M i)) :: rest))) : W p l e R s m args below meth c H locs cells slots Q (F0 m pc ls (.int (nI i) :: .ref (h 2) :: rest)) := va_iald (f := nF (mRt M)) X.1.1 X.1.2.1 X.2.1 hP 2 1 rfl rfl (vp_in_nI hi (by decide)) hdg (by rw [nI_clamp (Nat.lt_trans hi (by decide))]; exact kk)
theorem gm_s2 (X : MC p s m args c cc nL D h ca A) (hP : va_P D vwCl (wM h ca M) H) (hS : va_S A s.heap H locs) {i v : Nat} (hi : i < 12) (hdg : decode cc pc = .ok (.iastore, 1)) (kk : ∀ (H1 : Heap) (locs1 : List Loc), va_P D vwCl (wM h ca (sMRt M (va_up (mRt M) i v))) H1 → va_S A s.heap H1 locs1 → W p l e R s m args below meth c H1 locs1 cells slots Q (F0 m (pc + 1) ls rest)) : W p l e R s m args below meth c H locs cells slots Q (F0 m pc ls (.int (nI v) :: .int (nI i) :: .ref (h 2) :: rest)) := by
  have ez : upd (nF (mRt M)) (nI i).toNatClampNeg (nI v) = nF (va_up (mRt M) i v) := by rw [nI_clamp (Nat.lt_trans hi (by decide)), nF_up]
  refine va_iast (f := nF (mRt M)) X.1.1 X.1.2.1 X.2.1 hP (X.2.2 M) hS 2 1 rfl rfl (vp_in_nI hi (by decide)) hdg (fun H1 locs1 hP1 _ hS1 => ?_)
  rw [ez] at hP1
  exact kk H1 locs1 hP1 hS1
theorem gm_l3 (X : MC p s m args c cc nL D h ca A) (hP : va_P D vwCl (wM h ca M) H) {i : Nat} (hi : i < 8) (hdg : decode cc pc = .ok (.iaload, 1)) (kk : W p l e R s m args below meth c H locs cells slots Q (F0 m (pc + 1) ls (.int (nI (mTx M i)) :: rest))) : W p l e R s m args below meth c H locs cells slots Q (F0 m pc ls (.int (nI i) :: .ref (h 3) :: rest)) := va_iald (f := nF (mTx M)) X.1.1 X.1.2.1 X.2.1 hP 3 2 rfl rfl (vp_in_nI hi (by decide)) hdg (by rw [nI_clamp (Nat.lt_trans hi (by decide))]; exact kk)
theorem gm_s3 (X : MC p s m args c cc nL D h ca A) (hP : va_P D vwCl (wM h ca M) H) (hS : va_S A s.heap H locs) {i v : Nat} (hi : i < 8) (hdg : decode cc pc = .ok (.iastore, 1)) (kk : ∀ (H1 : Heap) (locs1 : List Loc), va_P D vwCl (wM h ca (sMTx M (va_up (mTx M) i v))) H1 → va_S A s.heap H1 locs1 → W p l e R s m args below meth c H1 locs1 cells slots Q (F0 m (pc + 1) ls rest)) : W p l e R s m args below meth c H locs cells slots Q (F0 m pc ls (.int (nI v) :: .int (nI i) :: .ref (h 3) :: rest)) := by
  have ez : upd (nF (mTx M)) (nI i).toNatClampNeg (nI v) = nF (va_up (mTx M) i v) := by rw [nI_clamp (Nat.lt_trans hi (by decide)), nF_up]
  refine va_iast (f := nF (mTx M)) X.1.1 X.1.2.1 X.2.1 hP (X.2.2 M) hS 3 2 rfl rfl (vp_in_nI hi (by decide)) hdg (fun H1 locs1 hP1 _ hS1 => ?_)
  rw [ez] at hP1
  exact kk H1 locs1 hP1 hS1
theorem gm_l4 (X : MC p s m args c cc nL D h ca A) (hP : va_P D vwCl (wM h ca M) H) {i : Nat} (hi : i < 405) (hdg : decode cc pc = .ok (.baload, 1)) (kk : W p l e R s m args below meth c H locs cells slots Q (F0 m (pc + 1) ls (.int (nI (mT M i).toNat) :: rest))) : W p l e R s m args below meth c H locs cells slots Q (F0 m pc ls (.int (nI i) :: .ref (h 4) :: rest)) := va_zald (f := zF (mT M)) X.1.1 X.1.2.1 X.2.1 hP 4 3 rfl rfl (vp_in_nI hi (by decide)) hdg (by rw [nI_clamp (Nat.lt_trans hi (by decide))]; exact kk)
theorem gm_s4 (X : MC p s m args c cc nL D h ca A) (hP : va_P D vwCl (wM h ca M) H) (hS : va_S A s.heap H locs) {i : Nat} (b : Bool) {x : Int32} (hi : i < 405) (hxb : x = nI b.toNat) (hdg : decode cc pc = .ok (.bastore, 1)) (kk : ∀ (H1 : Heap) (locs1 : List Loc), va_P D vwCl (wM h ca (sMT M (va_up (mT M) i b))) H1 → va_S A s.heap H1 locs1 → W p l e R s m args below meth c H1 locs1 cells slots Q (F0 m (pc + 1) ls rest)) : W p l e R s m args below meth c H locs cells slots Q (F0 m pc ls (.int x :: .int (nI i) :: .ref (h 4) :: rest)) := by
  subst hxb
  have ez : upd (zF (mT M)) (nI i).toNatClampNeg (vp_nar .boolean (nI b.toNat)) = zF (va_up (mT M) i b) := by rw [nI_clamp (Nat.lt_trans hi (by decide)), nI_bv, zF_up]
  refine va_zast (f := zF (mT M)) X.1.1 X.1.2.1 X.2.1 hP (X.2.2 M) hS 4 3 rfl rfl (vp_in_nI hi (by decide)) hdg (fun H1 locs1 hP1 _ hS1 => ?_)
  rw [ez] at hP1
  exact kk H1 locs1 hP1 hS1
theorem gm_callv (X : MC p s m args c cc nL D h ca A) {y : MethodName} {bytes : ByteArray} {maxL fr lo idx n : Nat} {As st : List Value} {post : MM → Prop} (hM : Met l y (ws_ y bytes maxL none) ({ frames := fr, cells := 0, slots := 0, locals := lo }) (PM D h ca A M As) (va_Qv post (BM D h ca) A) 0 0 (A)) (hw : GoodIn lw_all (wsV RX1 idx RX1 y (ws_ y bytes maxL none))) (hd : y.cls = RX1 ∧ y.cls ≠ "java/lang/invoke/MethodHandle" ∧ y.cls ≠ "java/lang/invoke/VarHandle" ∧ (parseMethodDescriptor y.desc).map (fun d => d.parameters.length) = some n) (hR : fr + 1 ≤ R.frames ∧ 8 + (maxL + 11) + lo ≤ R.locals) (hP : va_P D vwCl (wM h ca M) H) (hS : va_S A s.heap H locs) (hn : As.length = n) (hz : ls.size = nL) (hst : st = As.reverse ++ .ref (h 0) :: rest) (hrm : (rest.map fun v => v.category).sum ≤ 8) (hdg : decode cc pc = .ok (.invokevirtual idx, 3)) (kk : ∀ (u : MM) (H1 : Heap) (locs1 : List Loc), post u → va_P D vwCl (wM h ca u) H1 → va_S A s.heap H1 locs1 → W p l e R s m args below meth c H1 locs1 0 0 Q (F0 m (pc + 3) ls rest)) : W p l e R s m args below meth c H locs 0 0 Q (F0 m pc ls st) := by
  refine va_callv (va_runV X.1 hM (cwV n X.1.2.2.2.2 hw rfl rfl rfl hd hR) ⟨fun a U g mk q => by obtain ⟨q0, qP, qK, qD⟩ := q; exact ⟨q0, qP, va_K.moved (u := U) (U := U.calling g mk a) (Vm.Alike.refl U.vm) qK, qD⟩, va_recv X.2.1 hP (ci := 1) (q0 := 0) rfl rfl, fun U hU hW => ⟨rfl, by rw [hU]; exact hP, va_K.moved hW.alike X.2.1, X.2.2 M⟩⟩ rfl hn hz hst (lv_room hrm) hdg ⟨Nat.zero_le _, Nat.zero_le _⟩) hS (fun q _ hq => hq) (fun q hq => hq) (fun u t H1 locs1 ht hvm hpost hB hz1 hk1 hS1 => ?_)
  exact kk u H1 locs1 hpost (by rw [← ht]; exact hB) hS1
theorem gm_calli (X : MC p s m args c cc nL D h ca A) {y : MethodName} {bytes : ByteArray} {maxL fr lo idx n : Nat} {As st : List Value} {ty : FieldType} {post : Int32 → MM → Prop} (hM : Met l y (ws_ y bytes maxL (some ty)) ({ frames := fr, cells := 0, slots := 0, locals := lo }) (PM D h ca A M As) (va_Qi post (BM D h ca) A) 0 0 (A)) (hw : GoodIn lw_all (wsV RX1 idx RX1 y (ws_ y bytes maxL (some ty)))) (hd : y.cls = RX1 ∧ y.cls ≠ "java/lang/invoke/MethodHandle" ∧ y.cls ≠ "java/lang/invoke/VarHandle" ∧ (parseMethodDescriptor y.desc).map (fun d => d.parameters.length) = some n) (hR : fr + 1 ≤ R.frames ∧ 8 + (maxL + 11) + lo ≤ R.locals) (hP : va_P D vwCl (wM h ca M) H) (hS : va_S A s.heap H locs) (hn : As.length = n) (hz : ls.size = nL) (hst : st = As.reverse ++ .ref (h 0) :: rest) (hrm : (rest.map fun v => v.category).sum ≤ 8) (hdg : decode cc pc = .ok (.invokevirtual idx, 3)) (kk : ∀ (r : Int32) (u : MM) (H1 : Heap) (locs1 : List Loc), post r u → va_P D vwCl (wM h ca u) H1 → va_S A s.heap H1 locs1 → W p l e R s m args below meth c H1 locs1 0 0 Q (F0 m (pc + 3) ls (.int r :: rest))) : W p l e R s m args below meth c H locs 0 0 Q (F0 m pc ls st) := by
  refine va_calli (va_runV X.1 hM (cwV n X.1.2.2.2.2 hw rfl rfl rfl hd hR) ⟨fun a U g mk q => by obtain ⟨q0, qP, qK, qD⟩ := q; exact ⟨q0, qP, va_K.moved (u := U) (U := U.calling g mk a) (Vm.Alike.refl U.vm) qK, qD⟩, va_recv X.2.1 hP (ci := 1) (q0 := 0) rfl rfl, fun U hU hW => ⟨rfl, by rw [hU]; exact hP, va_K.moved hW.alike X.2.1, X.2.2 M⟩⟩ rfl hn hz hst (lv_room hrm) hdg ⟨Nat.zero_le _, Nat.zero_le _⟩) hS (fun q _ hq => hq) (fun q hq => hq) (fun r u t H1 locs1 ht hvm hpost hB hz1 hk1 hS1 => ?_)
  exact kk r u H1 locs1 hpost (by rw [← ht]; exact hB) hS1
theorem gm_callS (X : MC p s m args c cc nL D h ca A) {y : MethodName} {bytes : ByteArray} {maxL fr lo idx n : Nat} {As st : List Value} {ty : FieldType} {post : Int32 → Prop} (hM : Met l y (ws_ y bytes maxL (some ty)) ({ frames := fr, cells := 0, slots := 0, locals := lo }) (PM D h ca A M As) (vp_Si post) 0 0 (fun _ => False)) (hw : GoodIn lw_all (wsV RX1 idx RX1 y (ws_ y bytes maxL (some ty)))) (hd : y.cls = RX1 ∧ y.cls ≠ "java/lang/invoke/MethodHandle" ∧ y.cls ≠ "java/lang/invoke/VarHandle" ∧ (parseMethodDescriptor y.desc).map (fun d => d.parameters.length) = some n) (hR : fr + 1 ≤ R.frames ∧ 8 + (maxL + 11) + lo ≤ R.locals) (hP : va_P D vwCl (wM h ca M) H) (hS : va_S A s.heap H locs) (hn : As.length = n) (hz : ls.size = nL) (hst : st = As.reverse ++ .ref (h 0) :: rest) (hrm : (rest.map fun v => v.category).sum ≤ 8) (hdg : decode cc pc = .ok (.invokevirtual idx, 3)) (kk : ∀ r : Int32, post r → W p l e R s m args below meth c H locs 0 0 Q (F0 m (pc + 3) ls (.int r :: rest))) : W p l e R s m args below meth c H locs 0 0 Q (F0 m pc ls st) := by
  refine vp_callSi (W.runV X.1 hM (cwV n X.1.2.2.2.2 hw rfl rfl rfl hd hR) ⟨fun a U g mk q => by obtain ⟨q0, qP, qK, qD⟩ := q; exact ⟨q0, qP, va_K.moved (u := U) (U := U.calling g mk a) (Vm.Alike.refl U.vm) qK, qD⟩, va_recv X.2.1 hP (ci := 1) (q0 := 0) rfl rfl, fun U hU hW => ⟨rfl, by rw [hU]; exact hP, va_K.moved hW.alike X.2.1, X.2.2 M⟩⟩ rfl hn hz hst (lv_room hrm) hdg ⟨Nat.zero_le _, Nat.zero_le _⟩) (fun r hpost => ?_)
  exact kk r hpost
end WM
theorem gm_entv {l : Launch} {y : MethodName} {cc : ByteArray} {nL fr lo : Nat} {D : va_G} {h : Nat → Nat} {ca : Nat → ClassId} {A : Nat → Prop} {M : MM} {As : List Value} {post : MM → Prop} (hy : plainName y.cls = true) (hc : y.cls = RX1) (hlen : (lg_sl (Value.ref (h 0) :: As)).length ≤ nL) (body : ∀ (p : Program) (e : Env) (s : State) (m : MethodId) (below : List Frame) (meth : Method) (c : Code) (R : Room) (Q : State → Prop), fr ≤ R.frames → lo ≤ R.locals → MC p s m (Value.ref (h 0) :: As).toArray c cc nL D h ca A → (∀ (u : MM) (H : Heap) (locs : List Loc) (pc : Nat) (ls : Array Slot), decode cc pc = .ok (.return_, 1) → va_P D vwCl (wM h ca u) H → va_S A s.heap H locs → post u → W p l e R s m (Value.ref (h 0) :: As).toArray below meth c H locs 0 0 Q (F0 m pc ls [])) → ∀ (H : Heap) (locs : List Loc) (ls : Array Slot), va_P D vwCl (wM h ca M) H → va_S A s.heap H locs → lv_has ls nL (lv_args 0 (Value.ref (h 0) :: As)) → W p l e R s m (Value.ref (h 0) :: As).toArray below meth c H locs 0 0 Q (F0 m 0 ls [])) : Met l y (ws_ y cc nL none) ({ frames := fr, cells := 0, slots := 0, locals := lo }) (PM D h ca A M As) (va_Qv post (BM D h ca) A) 0 0 (A) := by
  refine Met.ofW (cc := cc) (maxL := nL) (ret := none) hy rfl ?_
  intro p e s m args below meth c s₁ B hml hv
  obtain ⟨rfl, hP, hK, hD⟩ := hv
  have hx := B.exec
  have hb := B.bytes
  have hr := B.returns
  have hts := atoms_spec (ws := ws_ y cc nL none) B.pre
  have hts : ∀ w ∈ lw_all, w.before _ s = true := fun w hw => hts w (List.mem_cons_of_mem _ hw)
  have hown : s.vm.findClass RX1 = some m.cls := hc ▸ findClass_of_methodNamed B.named
  have hlocks := B.notSynchronized
  have hl := lv_entry (Value.ref (h 0) :: As) (n := nL) hlen
  rw [lg_entry_eq]
  generalize (lg_sl (Value.ref (h 0) :: As) ++ List.replicate (nL - (lg_sl (Value.ref (h 0) :: As)).length) Slot.unset).toArray = ls at hl ⊢
  exact body p e s m below meth c _ _ (Nat.le_refl _) (Nat.le_refl _) ⟨⟨hx, hb, hml, hown, hts⟩, hK, fun M1 => gp_Dmap (ws := wM h ca M) (ws' := wM h ca M1) rfl hD⟩ (fun u H locs pc ls hdg hP hS hq => W.vret hx hb hr (fun t ht hW => ⟨⟨u, rfl, hq, by show va_P _ _ _ t.heap; rw [ht]; exact hP⟩, hS.F ht⟩) hS.2.2 hdg) _ _ _ hP va_S.rf hl
theorem gm_enti {l : Launch} {y : MethodName} {cc : ByteArray} {nL fr lo : Nat} {D : va_G} {h : Nat → Nat} {ca : Nat → ClassId} {A : Nat → Prop} {M : MM} {As : List Value} {ty : FieldType} {post : Int32 → MM → Prop} (hy : plainName y.cls = true) (hc : y.cls = RX1) (hlen : (lg_sl (Value.ref (h 0) :: As)).length ≤ nL) (body : ∀ (p : Program) (e : Env) (s : State) (m : MethodId) (below : List Frame) (meth : Method) (c : Code) (R : Room) (Q : State → Prop), fr ≤ R.frames → lo ≤ R.locals → MC p s m (Value.ref (h 0) :: As).toArray c cc nL D h ca A → (∀ (r : Int32) (u : MM) (H : Heap) (locs : List Loc) (pc : Nat) (ls : Array Slot), decode cc pc = .ok (.ireturn, 1) → narrow ty (.int r) = .int r → va_P D vwCl (wM h ca u) H → va_S A s.heap H locs → post r u → W p l e R s m (Value.ref (h 0) :: As).toArray below meth c H locs 0 0 Q (F0 m pc ls [.int r])) → ∀ (H : Heap) (locs : List Loc) (ls : Array Slot), va_P D vwCl (wM h ca M) H → va_S A s.heap H locs → lv_has ls nL (lv_args 0 (Value.ref (h 0) :: As)) → W p l e R s m (Value.ref (h 0) :: As).toArray below meth c H locs 0 0 Q (F0 m 0 ls [])) : Met l y (ws_ y cc nL (some ty)) ({ frames := fr, cells := 0, slots := 0, locals := lo }) (PM D h ca A M As) (va_Qi post (BM D h ca) A) 0 0 (A) := by
  refine Met.ofW (cc := cc) (maxL := nL) (ret := (some ty)) hy rfl ?_
  intro p e s m args below meth c s₁ B hml hv
  obtain ⟨rfl, hP, hK, hD⟩ := hv
  have hx := B.exec
  have hb := B.bytes
  have hr := B.returns
  have hts := atoms_spec (ws := ws_ y cc nL (some ty)) B.pre
  have hts : ∀ w ∈ lw_all, w.before _ s = true := fun w hw => hts w (List.mem_cons_of_mem _ hw)
  have hown : s.vm.findClass RX1 = some m.cls := hc ▸ findClass_of_methodNamed B.named
  have hlocks := B.notSynchronized
  have hl := lv_entry (Value.ref (h 0) :: As) (n := nL) hlen
  rw [lg_entry_eq]
  generalize (lg_sl (Value.ref (h 0) :: As) ++ List.replicate (nL - (lg_sl (Value.ref (h 0) :: As)).length) Slot.unset).toArray = ls at hl ⊢
  exact body p e s m below meth c _ _ (Nat.le_refl _) (Nat.le_refl _) ⟨⟨hx, hb, hml, hown, hts⟩, hK, fun M1 => gp_Dmap (ws := wM h ca M) (ws' := wM h ca M1) rfl hD⟩ (fun r u H locs pc ls hdg hn hP hS hq => W.zret hx hb hr hn (fun t ht hW => ⟨⟨r, u, rfl, hq, by show va_P _ _ _ t.heap; rw [ht]; exact hP⟩, hS.F ht⟩) hS.2.2 hdg) _ _ _ hP va_S.rf hl
theorem gm_entS {l : Launch} {y : MethodName} {cc : ByteArray} {nL fr lo : Nat} {D : va_G} {h : Nat → Nat} {ca : Nat → ClassId} {A : Nat → Prop} {M : MM} {As : List Value} {ty : FieldType} {post : Int32 → Prop} (hy : plainName y.cls = true) (hc : y.cls = RX1) (hlen : (lg_sl (Value.ref (h 0) :: As)).length ≤ nL) (body : ∀ (p : Program) (e : Env) (s : State) (m : MethodId) (below : List Frame) (meth : Method) (c : Code) (R : Room) (Q : State → Prop), fr ≤ R.frames → lo ≤ R.locals → MC p s m (Value.ref (h 0) :: As).toArray c cc nL D h ca A → (∀ (r : Int32) (pc : Nat) (ls : Array Slot), decode cc pc = .ok (.ireturn, 1) → narrow ty (.int r) = .int r → post r → W p l e R s m (Value.ref (h 0) :: As).toArray below meth c s.heap [] 0 0 Q (F0 m pc ls [.int r])) → ∀ (ls : Array Slot), va_P D vwCl (wM h ca M) s.heap → va_S A s.heap s.heap [] → lv_has ls nL (lv_args 0 (Value.ref (h 0) :: As)) → W p l e R s m (Value.ref (h 0) :: As).toArray below meth c s.heap [] 0 0 Q (F0 m 0 ls [])) : Met l y (ws_ y cc nL (some ty)) ({ frames := fr, cells := 0, slots := 0, locals := lo }) (PM D h ca A M As) (vp_Si post) 0 0 (fun _ => False) := by
  refine Met.ofW (cc := cc) (maxL := nL) (ret := (some ty)) hy rfl ?_
  intro p e s m args below meth c s₁ B hml hv
  obtain ⟨rfl, hP, hK, hD⟩ := hv
  have hx := B.exec
  have hb := B.bytes
  have hr := B.returns
  have hts := atoms_spec (ws := ws_ y cc nL (some ty)) B.pre
  have hts : ∀ w ∈ lw_all, w.before _ s = true := fun w hw => hts w (List.mem_cons_of_mem _ hw)
  have hown : s.vm.findClass RX1 = some m.cls := hc ▸ findClass_of_methodNamed B.named
  have hlocks := B.notSynchronized
  have hl := lv_entry (Value.ref (h 0) :: As) (n := nL) hlen
  rw [lg_entry_eq]
  generalize (lg_sl (Value.ref (h 0) :: As) ++ List.replicate (nL - (lg_sl (Value.ref (h 0) :: As)).length) Slot.unset).toArray = ls at hl ⊢
  exact body p e s m below meth c _ _ (Nat.le_refl _) (Nat.le_refl _) ⟨⟨hx, hb, hml, hown, hts⟩, hK, fun M1 => gp_Dmap (ws := wM h ca M) (ws' := wM h ca M1) rfl hD⟩ (fun r pc ls hdg hn hq => W.zret hx hb hr hn (fun t ht hW => ⟨r, rfl, hq, ht⟩) (fun _ h9 => by cases h9) hdg) _ hP va_S.rf hl
theorem gx_ents {l : Launch} {y : MethodName} {cc : ByteArray} {nL fr lo : Nat} {As : List Value} {ty : FieldType} {post : Int32 → Prop} (hy : plainName y.cls = true) (hc : y.cls = RX0) (hlen : (lg_sl As).length ≤ nL) (body : ∀ (p : Program) (e : Env) (s : State) (m : MethodId) (below : List Frame) (meth : Method) (c : Code) (R : Room) (Q : State → Prop), fr ≤ R.frames → lo ≤ R.locals → CallFix p m c cc nL s As.toArray lw_all RX0 → (∀ (r : Int32) (pc : Nat) (ls : Array Slot), decode cc pc = .ok (.ireturn, 1) → narrow ty (.int r) = .int r → post r → W p l e R s m As.toArray below meth c s.heap [] 0 0 Q (F0 m pc ls [.int r])) → ∀ (ls : Array Slot), lv_has ls nL (lv_args 0 As) → W p l e R s m As.toArray below meth c s.heap [] 0 0 Q (F0 m 0 ls [])) : Met l y (ws_ y cc nL (some ty)) ({ frames := fr, cells := 0, slots := 0, locals := lo }) (fun v _ => v = As.toArray) (vp_Si post) 0 0 (fun _ => False) := by
  refine Met.ofW (cc := cc) (maxL := nL) (ret := (some ty)) hy rfl ?_
  intro p e s m args below meth c s₁ B hml hv
  subst hv
  have hx := B.exec
  have hb := B.bytes
  have hr := B.returns
  have hts := atoms_spec (ws := ws_ y cc nL (some ty)) B.pre
  have hts : ∀ w ∈ lw_all, w.before _ s = true := fun w hw => hts w (List.mem_cons_of_mem _ hw)
  have hown : s.vm.findClass RX0 = some m.cls := hc ▸ findClass_of_methodNamed B.named
  have hlocks := B.notSynchronized
  have hl := lv_entry As (n := nL) hlen
  rw [lg_entry_eq]
  generalize (lg_sl As ++ List.replicate (nL - (lg_sl As).length) Slot.unset).toArray = ls at hl ⊢
  exact body p e s m below meth c _ _ (Nat.le_refl _) (Nat.le_refl _) ⟨hx, hb, hml, hown, hts⟩ (fun r pc ls hdg hn hq => W.zret hx hb hr hn (fun t ht hW => ⟨r, rfl, hq, ht⟩) (fun _ h9 => by cases h9) hdg) _ hl
section WS
variable {p : Program} {l : Launch} {e : Env} {R : Room} {s : State} {m : MethodId} {args : Array Value} {below : List Frame} {meth : Method} {c : Code} {H : Heap} {locs : List Loc} {Q : State → Prop}
variable {cc : ByteArray} {pc nL : Nat} {ls : Array Slot} {rest : List Value}
theorem gx_calls (X : CallFix p m c cc nL s args lw_all RX0) {y : MethodName} {bytes : ByteArray} {maxL fr lo idx n : Nat} {As st : List Value} {ty : FieldType} {post : Int32 → Prop} (hM : Met l y (ws_ y bytes maxL (some ty)) ({ frames := fr, cells := 0, slots := 0, locals := lo }) (fun v _ => v = As.toArray) (vp_Si post) 0 0 (fun _ => False)) (hw : GoodIn lw_all (va_wsS RX0 idx y (ws_ y bytes maxL (some ty)))) (hd : y.cls ≠ "java/lang/invoke/MethodHandle" ∧ y.cls ≠ "java/lang/invoke/VarHandle" ∧ (parseMethodDescriptor y.desc).map (fun d => d.parameters.length) = some n) (hR : fr + 1 ≤ R.frames ∧ 8 + (maxL + 11) + lo ≤ R.locals) (hn : As.length = n) (hz : ls.size = nL) (hst : st = As.reverse ++ rest) (hrm : (rest.map fun v => v.category).sum ≤ 8) (hdg : decode cc pc = .ok (.invokestatic idx, 3)) (kk : ∀ r : Int32, post r → W p l e R s m args below meth c H locs 0 0 Q (F0 m (pc + 3) ls (.int r :: rest))) : W p l e R s m args below meth c H locs 0 0 Q (F0 m pc ls st) := by
  refine vp_callSi (W.runS X hM (va_cwS n X.2.2.2.2 hw rfl rfl rfl hd hR) preEq rfl hn hz hst (lv_room hrm) hdg ⟨Nat.zero_le _, Nat.zero_le _⟩) (fun r hpost => ?_)
  exact kk r hpost
end WS
end
section
/-! what the recogniser's engine computes, as functions on its state -/
theorem wd_upd (S : Nat → Bool) (d : Nat) (v : Bool) : upd (wd S) (d / 32) (bw (va_up (fun k => S (32 * (d / 32) + k)) (d % 32) v)) = wd (va_up S d v) := by
  have e := wd_up S (d / 32) (d % 32) (by omega) v
  rw [show 32 * (d / 32) + d % 32 = d by omega] at e
  exact e
theorem wd_upc (S : Nat → Bool) (n k : Nat) (v : Bool) : upd (wd S) (68 * n + k / 32) (bw (va_up (fun i => S (32 * (68 * n + k / 32) + i)) (k % 32) v)) = wd (va_up S (2176 * n + k) v) := by
  have e := wd_up S (68 * n + k / 32) (k % 32) (by omega) v
  rw [show 32 * (68 * n + k / 32) + k % 32 = 2176 * n + k by omega] at e
  exact e
/-- a descriptor is seen, and waits if it is new -/
def addF (E : EE) (d : Nat) : EE := if eS E d = true then E else (va_up (eS E) d true, va_up (eP E) d true, eC E, eE E, eO E, eN E + 1)
theorem addF_t {E : EE} {d : Nat} (h : eS E d = true) : addF E d = E := if_pos h
theorem addF_f {E : EE} {d : Nat} (h : eS E d = false) : addF E d = (va_up (eS E) d true, va_up (eP E) d true, eC E, eE E, eO E, eN E + 1) := if_neg (by rw [h]; exact Bool.false_ne_true)
/-- the loop that adds f 0, f 1 .. where b says so -/
def itA (E : EE) (b : Nat → Bool) (f : Nat → Nat) : Nat → EE
  | 0 => E
  | n + 1 => if b n = true then addF (itA E b f n) (f n) else itA E b f n
theorem itA_t {E : EE} {b : Nat → Bool} {f : Nat → Nat} {n : Nat} (h : b n = true) : itA E b f (n + 1) = addF (itA E b f n) (f n) := if_pos h
theorem itA_f {E : EE} {b : Nat → Bool} {f : Nat → Nat} {n : Nat} (h : b n = false) : itA E b f (n + 1) = itA E b f n := if_neg (by rw [h]; exact Bool.false_ne_true)
def callB (G : GG) (v : Nat) : Nat → Bool := fun r => decide (gLf G r = v / 9)
def callD (v : Nat) : Nat → Nat := fun r => (4 * r * 45 + v) * 9 + v % 9
/-- a node is opened -/
def callF (G : GG) (E : EE) (v : Nat) : EE := if eO E v = true then E else itA (sEO E (va_up (eO E) v true)) (callB G v) (callD v) (gCn G)
def finB (E : EE) (v : Nat) : Nat → Bool := fun k => eC E (2176 * v + k)
def finD (c0 : Nat) : Nat → Nat := fun k => (k / 45 * 45 + k % 45) * 9 + c0
/-- a node ends at a place -/
def finF (E : EE) (v c0 : Nat) : EE := if eE E (32 * v + c0) = true then E else itA (sEE E (va_up (eE E) (32 * v + c0) true)) (finB E v) (finD c0) 2160
def attB (E : EE) (v : Nat) : Nat → Bool := fun q => eE E (32 * v + q)
def attD (a b : Nat) : Nat → Nat := fun q => (a * 45 + b) * 9 + q
/-- a caller waits for a node -/
def attF (G : GG) (E : EE) (v a b : Nat) : EE := if eC E (2176 * v + (a * 45 + b)) = true then E else callF G (itA (sEC E (va_up (eC E) (2176 * v + (a * 45 + b)) true)) (attB E v) (attD a b) 9) v
/-- a descriptor is handled -/
def handF (G : GG) (E : EE) (a b c0 : Nat) : EE := if a % 4 = gSz G (a / 4) then finF E b c0 else if 5 ≤ gRt G (3 * (a / 4) + a % 4) then (if c0 < gSi G ∧ gTx G c0 = gRt G (3 * (a / 4) + a % 4) then addF E (((a + 1) * 45 + b) * 9 + (c0 + 1)) else E) else attF G E (9 * gRt G (3 * (a / 4) + a % 4) + c0) (a + 1) b
/-- one that waits no longer -/
def popF (E : EE) (d : Nat) : EE := (eS E, va_up (eP E) d false, eC E, eE E, eO E, eN E - 1)
def stepF (G : GG) (E : EE) (d : Nat) : EE := if eP E d = true then handF G (popF E d) (d / 9 / 45) (d / 9 % 45) (d % 9) else E
def hwF (G : GG) (E : EE) (w : Nat) : Nat → EE
  | 0 => E
  | n + 1 => stepF G (hwF G E w n) (32 * w + n)
def swF (G : GG) (E : EE) : Nat → EE
  | 0 => E
  | n + 1 => hwF G (swF G E n) n 32
/-- a state with nothing in it -/
def nilF : EE := (fun _ => false, fun _ => false, fun _ => false, fun _ => false, fun _ => false, 0)
/-- which grammars the class can hold -/
def okG (G : GG) : Prop := gCn G ≤ 12 ∧ gSi G ≤ 8 ∧ (∀ r, r < gCn G → gLf G r < 5 ∧ gSz G r ≤ 3 ∧ ∀ k, k < gSz G r → gRt G (3 * r + k) < 8) ∧ ∀ j, j < gSi G → 5 ≤ gTx G j ∧ gTx G j < 8
theorem addF_C (E : EE) (d : Nat) : eC (addF E d) = eC E := by unfold addF; split <;> rfl
theorem addF_E (E : EE) (d : Nat) : eE (addF E d) = eE E := by unfold addF; split <;> rfl
theorem addF_O (E : EE) (d : Nat) : eO (addF E d) = eO E := by unfold addF; split <;> rfl
theorem itA_C (E : EE) (b : Nat → Bool) (f : Nat → Nat) (n : Nat) : eC (itA E b f n) = eC E := by
  induction n with
  | zero => rfl
  | succ n ih => rw [itA]; split; rw [addF_C, ih]; exact ih
theorem itA_E (E : EE) (b : Nat → Bool) (f : Nat → Nat) (n : Nat) : eE (itA E b f n) = eE E := by
  induction n with
  | zero => rfl
  | succ n ih => rw [itA]; split; rw [addF_E, ih]; exact ih
theorem itA_O (E : EE) (b : Nat → Bool) (f : Nat → Nat) (n : Nat) : eO (itA E b f n) = eO E := by
  induction n with
  | zero => rfl
  | succ n ih => rw [itA]; split; rw [addF_O, ih]; exact ih
/-! start: the three sweeps -/
def clrW (S : Nat → Bool) (n : Nat) : Nat → Bool := fun d => if d / 32 < n then false else S d
def clrZ (S : Nat → Bool) (n : Nat) : Nat → Bool := fun d => if d < n then false else S d
theorem clrW_0 (S : Nat → Bool) : clrW S 0 = S := by funext d; exact if_neg (by omega)
theorem clrZ_0 (S : Nat → Bool) : clrZ S 0 = S := by funext d; exact if_neg (by omega)
theorem clrW_s (S : Nat → Bool) (n : Nat) : (fun d => if d / 32 = n then false else clrW S n d) = clrW S (n + 1) := by
  funext d
  show (if d / 32 = n then false else if d / 32 < n then false else S d) = if d / 32 < n + 1 then false else S d
  by_cases h : d / 32 = n
  · rw [if_pos h, if_pos (by omega)]
  · rw [if_neg h]
    by_cases h2 : d / 32 < n
    · rw [if_pos h2, if_pos (by omega)]
    · rw [if_neg h2, if_neg (by omega)]
theorem clrZ_s (S : Nat → Bool) (n : Nat) : va_up (clrZ S n) n false = clrZ S (n + 1) := by
  funext d
  show (if d = n then false else if d < n then false else S d) = if d < n + 1 then false else S d
  by_cases h : d = n
  · rw [if_pos h, if_pos (by omega)]
  · rw [if_neg h]
    by_cases h2 : d < n
    · rw [if_pos h2, if_pos (by omega)]
    · rw [if_neg h2, if_neg (by omega)]
def st1 (E : EE) (n : Nat) : EE := (clrW (eS E) n, clrW (eP E) n, eC E, eE E, eO E, 0)
def st2 (E : EE) (n : Nat) : EE := (clrW (eS E) 608, clrW (eP E) 608, clrW (eC E) n, eE E, eO E, 0)
def st3 (E : EE) (n : Nat) : EE := (clrW (eS E) 608, clrW (eP E) 608, clrW (eC E) 3060, clrW (eE E) n, clrZ (eO E) n, 0)
theorem st1_0 (E : EE) : st1 E 0 = sEN E 0 := by unfold st1; rw [clrW_0, clrW_0]; rfl
theorem st2_0 (E : EE) : st2 E 0 = st1 E 608 := by unfold st2; rw [clrW_0]; rfl
theorem st3_0 (E : EE) : st3 E 0 = st2 E 3060 := by unfold st3; rw [clrW_0, clrZ_0]; rfl
theorem st1_s (E : EE) (n : Nat) : sEP (sES (st1 E n) (fun d => if d / 32 = n then false else eS (st1 E n) d)) (fun d => if d / 32 = n then false else eP (sES (st1 E n) (fun d => if d / 32 = n then false else eS (st1 E n) d)) d) = st1 E (n + 1) := by
  show (_, _, _) = (_, _, _)
  unfold st1
  rw [← clrW_s, ← clrW_s]
  rfl
theorem st2_s (E : EE) (n : Nat) : sEC (st2 E n) (fun d => if d / 32 = n then false else eC (st2 E n) d) = st2 E (n + 1) := by
  unfold st2
  rw [← clrW_s (eC E) n]
  rfl
theorem st3_s (E : EE) (n : Nat) : sEO (sEE (st3 E n) (fun d => if d / 32 = n then false else eE (st3 E n) d)) (va_up (eO (sEE (st3 E n) (fun d => if d / 32 = n then false else eE (st3 E n) d))) n false) = st3 E (n + 1) := by
  unfold st3
  rw [← clrW_s (eE E) n, ← clrZ_s (eO E) n]
  rfl
/-- what start leaves: nothing within the bounds -/
def clean (E : EE) : Prop := (∀ d, d < 19456 → eS E d = false ∧ eP E d = false) ∧ (∀ d, d < 97920 → eC E d = false) ∧ (∀ d, d < 1440 → eE E d = false) ∧ (∀ v, v < 45 → eO E v = false) ∧ eN E = 0
theorem st3_ok (E : EE) : clean (st3 E 45) := ⟨fun d h => ⟨if_pos (by omega), if_pos (by omega)⟩, fun d h => if_pos (by omega), fun d h => if_pos (by omega), fun v h => if_pos h, rfl⟩
theorem gp_arr {cA : ClassId} {N : Nat} {f g : Nat → Int32} (h : ∀ j, j < N → f j = g j) : vp_cell cA (N, .inl f) = vp_cell cA (N, .inl g) := by
  rw [vp_cell_i, vp_cell_i]
  unfold arrV
  congr 2
  funext j
  show Value.int (f j.val) = Value.int (g j.val)
  rw [h j.val j.isLt]
/-- bits outside the arrays don't matter: what is clean is nothing -/
theorem nilW {D : va_G} {h : Nat → Nat} {ca : Nat → ClassId} {G : GG} {E : EE} {H : Heap} (hP : va_P D vwCl (wX h ca G E) H) (hE : clean E) : va_P D vwCl (wX h ca G nilF) H := by
  obtain ⟨h1, h2, h3, h4, h5⟩ := hE
  intro k q hk
  match k, hk with
  | 0, hk =>
    cases hk
    have z := hP 0 _ rfl
    rw [h5] at z
    exact z
  | 1, hk => cases hk; exact hP 1 _ rfl
  | 2, hk => cases hk; exact hP 2 _ rfl
  | 3, hk => cases hk; exact hP 3 _ rfl
  | 4, hk => cases hk; exact hP 4 _ rfl
  | 5, hk =>
    cases hk
    have z := hP 5 _ rfl
    show H[h 5]? = some (vp_cell (ca 5) (608, .inl (wd (eS nilF))))
    have ez : vp_cell (ca 5) (608, .inl (wd (eS E))) = vp_cell (ca 5) (608, .inl (wd (eS nilF))) := gp_arr (fun j hj => bw_eq (fun i hi => (h1 _ (by omega)).1))
    rw [← ez]
    exact z
  | 6, hk =>
    cases hk
    have z := hP 6 _ rfl
    show H[h 6]? = some (vp_cell (ca 6) (608, .inl (wd (eP nilF))))
    have ez : vp_cell (ca 6) (608, .inl (wd (eP E))) = vp_cell (ca 6) (608, .inl (wd (eP nilF))) := gp_arr (fun j hj => bw_eq (fun i hi => (h1 _ (by omega)).2))
    rw [← ez]
    exact z
  | 7, hk =>
    cases hk
    have z := hP 7 _ rfl
    show H[h 7]? = some (vp_cell (ca 7) (3060, .inl (wd (eC nilF))))
    have ez : vp_cell (ca 7) (3060, .inl (wd (eC E))) = vp_cell (ca 7) (3060, .inl (wd (eC nilF))) := gp_arr (fun j hj => bw_eq (fun i hi => h2 _ (by omega)))
    rw [← ez]
    exact z
  | 8, hk =>
    cases hk
    have z := hP 8 _ rfl
    show H[h 8]? = some (vp_cell (ca 8) (45, .inl (wd (eE nilF))))
    have ez : vp_cell (ca 8) (45, .inl (wd (eE E))) = vp_cell (ca 8) (45, .inl (wd (eE nilF))) := gp_arr (fun j hj => bw_eq (fun i hi => h3 _ (by omega)))
    rw [← ez]
    exact z
  | 9, hk =>
    cases hk
    have z := hP 9 _ rfl
    show H[h 9]? = some (vp_cell (ca 9) (45, .inl (zF (eO nilF))))
    have ez : vp_cell (ca 9) (45, .inl (zF (eO E))) = vp_cell (ca 9) (45, .inl (zF (eO nilF))) := gp_arr (fun j hj => by show nI (eO E j).toNat = nI false.toNat; rw [h4 j hj])
    rw [← ez]
    exact z
  | k + 10, hk => simp at hk
end
section
/-! the plain law of the engine: a grammar's least relation, the engine's invariant, its end -/
def cnt (B : Nat → Bool) : Nat → Nat
  | 0 => 0
  | n + 1 => cnt B n + (B n).toNat
theorem cnt_le (B : Nat → Bool) (n : Nat) : cnt B n ≤ n := by
  induction n with
  | zero => exact Nat.le_refl _
  | succ n ih =>
    have h : (B n).toNat ≤ 1 := by cases B n <;> decide
    show cnt B n + (B n).toNat ≤ n + 1
    omega
theorem cnt_mono {B C : Nat → Bool} {n : Nat} (h : ∀ d, d < n → B d = true → C d = true) : cnt B n ≤ cnt C n := by
  induction n with
  | zero => exact Nat.le_refl _
  | succ n ih =>
    have h1 := ih (fun d hd => h d (by omega))
    have h2 : (B n).toNat ≤ (C n).toNat := by
      cases hB : B n
      · exact Nat.zero_le _
      · rw [h n (by omega) hB]; exact Nat.le_refl _
    show cnt B n + (B n).toNat ≤ cnt C n + (C n).toNat
    omega
theorem cnt_congr {B C : Nat → Bool} {n : Nat} (h : ∀ d, d < n → B d = C d) : cnt B n = cnt C n := Nat.le_antisymm (cnt_mono (fun d hd q => by rw [← h d hd]; exact q)) (cnt_mono (fun d hd q => by rw [h d hd]; exact q))
theorem cnt_up {B : Nat → Bool} {k n : Nat} (hk : k < n) (h : B k = false) : cnt (va_up B k true) n = cnt B n + 1 := by
  induction n with
  | zero => omega
  | succ n ih =>
    show cnt (va_up B k true) n + (va_up B k true n).toNat = cnt B n + (B n).toNat + 1
    by_cases e : n = k
    · subst e
      rw [va_up_self, h, cnt_congr (C := B) (fun d hd => va_up_ne _ _ (by omega))]
      rfl
    · rw [ih (by omega), va_up_ne _ _ e]
      omega
theorem cnt_dn {B : Nat → Bool} {k n : Nat} (hk : k < n) (h : B k = true) : cnt (va_up B k false) n + 1 = cnt B n := by
  induction n with
  | zero => omega
  | succ n ih =>
    show cnt (va_up B k false) n + (va_up B k false n).toNat + 1 = cnt B n + (B n).toNat
    by_cases e : n = k
    · subst e
      rw [va_up_self, h, cnt_congr (C := B) (fun d hd => va_up_ne _ _ (by omega))]
      rfl
    · have z := ih (by omega)
      rw [va_up_ne _ _ e]
      omega
theorem cnt_pos {B : Nat → Bool} {n : Nat} (h : 0 < cnt B n) : ∃ d, d < n ∧ B d = true := by
  induction n with
  | zero => exact absurd h (Nat.lt_irrefl 0)
  | succ n ih =>
    cases hB : B n
    · have e : cnt B (n + 1) = cnt B n := by show cnt B n + (B n).toNat = _; rw [hB]; rfl
      rw [e] at h
      obtain ⟨d, h1, h2⟩ := ih h
      exact ⟨d, by omega, h2⟩
    · exact ⟨n, by omega, hB⟩
theorem cnt_0 {B : Nat → Bool} {n : Nat} (h : cnt B n = 0) : ∀ d, d < n → B d = false := by
  intro d hd
  cases hB : B d
  · rfl
  · have e := cnt_dn hd hB
    omega
theorem cnt_st {B C : Nat → Bool} {k n : Nat} (hk : k < n) (h : ∀ d, d < n → B d = true → C d = true) (h1 : B k = false) (h2 : C k = true) : cnt B n + 1 ≤ cnt C n := by
  rw [← cnt_up hk h1]
  refine cnt_mono (fun d hd q => ?_)
  by_cases e : d = k
  · rw [e]; exact h2
  · rw [va_up_ne _ _ e] at q
    exact h d hd q
/-! a grammar and a text, seen from both classes: rules, left sides, sizes, signs, text, length -/
abbrev VV : Type := Nat × (Nat → Nat) × (Nat → Nat) × (Nat → Nat → Nat) × (Nat → Nat) × Nat
def vCn (V : VV) : Nat := V.1
def vLf (V : VV) : Nat → Nat := V.2.1
def vSz (V : VV) : Nat → Nat := V.2.2.1
def vSg (V : VV) : Nat → Nat → Nat := V.2.2.2.1
def vTx (V : VV) : Nat → Nat := V.2.2.2.2.1
def vLn (V : VV) : Nat := V.2.2.2.2.2
/-- a sign fits a stretch, if names fit as T says -/
def sgT (V : VV) (T : Nat → Nat → Nat → Prop) (s p q : Nat) : Prop := (5 ≤ s ∧ p < vLn V ∧ vTx V p = s ∧ q = p + 1) ∨ (s < 5 ∧ T s p q)
/-- the first k signs of rule r fit from i to q -/
def preT (V : VV) (T : Nat → Nat → Nat → Prop) (r i : Nat) : Nat → Nat → Prop
  | 0, q => q = i
  | k + 1, q => ∃ p, preT V T r i k p ∧ sgT V T (vSg V r k) p q
def closedT (V : VV) (T : Nat → Nat → Nat → Prop) : Prop := ∀ r, r < vCn V → ∀ i, i ≤ vLn V → ∀ q, preT V T r i (vSz V r) q → T (vLf V r) i q
/-- a name fits a stretch: the least relation that the rules close -/
def Fits (V : VV) (n i j : Nat) : Prop := ∀ T, closedT V T → T n i j
theorem sgT_mono {V : VV} {T T' : Nat → Nat → Nat → Prop} (h : ∀ n i j, T n i j → T' n i j) {s p q : Nat} (g : sgT V T s p q) : sgT V T' s p q := by
  rcases g with g | ⟨g1, g2⟩
  · exact Or.inl g
  · exact Or.inr ⟨g1, h _ _ _ g2⟩
theorem preT_mono {V : VV} {T T' : Nat → Nat → Nat → Prop} (h : ∀ n i j, T n i j → T' n i j) {r i : Nat} : ∀ {k q : Nat}, preT V T r i k q → preT V T' r i k q := by
  intro k
  induction k with
  | zero => exact fun g => g
  | succ k ih =>
    intro q g
    obtain ⟨p, g1, g2⟩ := g
    exact ⟨p, ih g1, sgT_mono h g2⟩
theorem Fits_closed (V : VV) : closedT V (Fits V) := fun r hr i hi q g T hT => hT r hr i hi q (preT_mono (fun _ _ _ f => f T hT) g)
theorem preT_in {V : VV} {T : Nat → Nat → Nat → Prop} (hT : ∀ n i j, T n i j → i ≤ vLn V → i ≤ j ∧ j ≤ vLn V) {r i : Nat} (hi : i ≤ vLn V) : ∀ {k q : Nat}, preT V T r i k q → i ≤ q ∧ q ≤ vLn V := by
  intro k
  induction k with
  | zero => intro q g; have e : q = i := g; omega
  | succ k ih =>
    intro q g
    obtain ⟨p, g1, g2⟩ := g
    have h1 := ih g1
    rcases g2 with ⟨_, g3, _, g4⟩ | ⟨_, g3⟩
    · omega
    · have h2 := hT _ _ _ g3 h1.2
      omega
theorem Fits_in {V : VV} {n i j : Nat} (g : Fits V n i j) : i ≤ vLn V → i ≤ j ∧ j ≤ vLn V := g (fun _ i j => i ≤ vLn V → i ≤ j ∧ j ≤ vLn V) (fun _ _ _ hi _ h => fun _ => preT_in (fun _ _ _ f => f) hi h)
/-- the grammar of the recogniser -/
def vX (G : GG) : VV := (gCn G, gLf G, gSz G, fun r k => gRt G (3 * r + k), gTx G, gSi G)
abbrev FX (G : GG) : Nat → Nat → Nat → Prop := Fits (vX G)
abbrev pX (G : GG) (r i k q : Nat) : Prop := preT (vX G) (FX G) r i k q
/-! the invariant -/
def okD (G : GG) (a v q : Nat) : Prop := a / 4 < gCn G ∧ a % 4 ≤ gSz G (a / 4) ∧ gLf G (a / 4) = v / 9 ∧ q ≤ gSi G ∧ pX G (a / 4) (v % 9) (a % 4) q ∧ v % 9 ≤ gSi G
def okW (G : GG) (v k : Nat) : Prop := k < 2160 ∧ 1 ≤ k / 45 % 4 ∧ k / 45 / 4 < gCn G ∧ k / 45 % 4 ≤ gSz G (k / 45 / 4) ∧ gRt G (3 * (k / 45 / 4) + (k / 45 % 4 - 1)) = v / 9 ∧ gLf G (k / 45 / 4) = k % 45 / 9 ∧ pX G (k / 45 / 4) (k % 45 % 9) (k / 45 % 4 - 1) (v % 9) ∧ k % 45 % 9 ≤ gSi G
def done (G : GG) (E : EE) (a v q : Nat) : Prop :=
  (a % 4 = gSz G (a / 4) → eE E (32 * v + q) = true) ∧
  (a % 4 ≠ gSz G (a / 4) → 5 ≤ gRt G (3 * (a / 4) + a % 4) → q < gSi G → gTx G q = gRt G (3 * (a / 4) + a % 4) → eS E (((a + 1) * 45 + v) * 9 + (q + 1)) = true) ∧
  (a % 4 ≠ gSz G (a / 4) → gRt G (3 * (a / 4) + a % 4) < 5 → eC E (2176 * (9 * gRt G (3 * (a / 4) + a % 4) + q) + ((a + 1) * 45 + v)) = true ∧ eO E (9 * gRt G (3 * (a / 4) + a % 4) + q) = true)
def inv (G : GG) (x : Nat → Prop) (E : EE) : Prop :=
  (∀ d, eP E d = true → eS E d = true) ∧
  (∀ d, eS E d = true → okD G (d / 9 / 45) (d / 9 % 45) (d % 9)) ∧
  (∀ d, eS E d = true → eP E d = true ∨ done G E (d / 9 / 45) (d / 9 % 45) (d % 9) ∨ x d) ∧
  (∀ v k q, v < 45 → k < 2160 → q < 9 → eC E (2176 * v + k) = true → eE E (32 * v + q) = true → eS E (k * 9 + q) = true) ∧
  (∀ v, v < 45 → eO E v = true → ∀ r, r < gCn G → gLf G r = v / 9 → eS E (callD v r) = true) ∧
  (∀ v q, v < 45 → q < 32 → eE E (32 * v + q) = true → q ≤ gSi G ∧ FX G (v / 9) (v % 9) q) ∧
  (∀ v k, v < 45 → k < 2176 → eC E (2176 * v + k) = true → okW G v k) ∧
  eN E = cnt (eP E) 19440
/-- one state holds what the other holds -/
def ext (E E' : EE) : Prop := (∀ d, eS E d = true → eS E' d = true) ∧ (∀ d, eC E d = true → eC E' d = true) ∧ (∀ d, eE E d = true → eE E' d = true) ∧ (∀ d, eO E d = true → eO E' d = true)
theorem ext.rf (E : EE) : ext E E := ⟨fun _ h => h, fun _ h => h, fun _ h => h, fun _ h => h⟩
theorem ext.tr {E F K : EE} (a : ext E F) (b : ext F K) : ext E K := ⟨fun d h => b.1 d (a.1 d h), fun d h => b.2.1 d (a.2.1 d h), fun d h => b.2.2.1 d (a.2.2.1 d h), fun d h => b.2.2.2 d (a.2.2.2 d h)⟩
theorem done.ext {G : GG} {E E' : EE} {a v q : Nat} (h : done G E a v q) (g : ext E E') : done G E' a v q :=
  ⟨fun c => g.2.2.1 _ (h.1 c), fun c1 c2 c3 c4 => g.1 _ (h.2.1 c1 c2 c3 c4), fun c1 c2 => ⟨g.2.1 _ (h.2.2 c1 c2).1, g.2.2.2 _ (h.2.2 c1 c2).2⟩⟩
/-- what adding does to seen and waiting -/
def adds (E E' : EE) : Prop := (∀ d, eS E d = true → eS E' d = true) ∧ (∀ d, eP E' d = true ↔ eP E d = true ∨ (eS E d = false ∧ eS E' d = true)) ∧ eC E' = eC E ∧ eE E' = eE E ∧ eO E' = eO E ∧ ((∀ d, eP E d = true → eS E d = true) → (∀ d, eS E' d = true → d < 19440) → eN E = cnt (eP E) 19440 → eN E' = cnt (eP E') 19440)
theorem adds.rf (E : EE) : adds E E := ⟨fun _ h => h, fun d => ⟨fun h => Or.inl h, fun h => by rcases h with h | ⟨h1, h2⟩; exact h; rw [h1] at h2; cases h2⟩, rfl, rfl, rfl, fun _ _ h => h⟩
theorem adds.tr {E F K : EE} (a : adds E F) (b : adds F K) : adds E K := by
  obtain ⟨a1, a2, a3, a4, a5, a6⟩ := a
  obtain ⟨b1, b2, b3, b4, b5, b6⟩ := b
  refine ⟨fun d h => b1 d (a1 d h), fun d => ?_, b3.trans a3, b4.trans a4, b5.trans a5, fun h1 h2 h3 => ?_⟩
  · rw [b2 d, a2 d]
    constructor
    · rintro ((h | ⟨h1, h2⟩) | ⟨h1, h2⟩)
      · exact Or.inl h
      · exact Or.inr ⟨h1, b1 d h2⟩
      · refine Or.inr ⟨?_, h2⟩
        cases hE : eS E d
        · rfl
        · rw [a1 d hE] at h1; cases h1
    · rintro (h | ⟨h1, h2⟩)
      · exact Or.inl (Or.inl h)
      · cases hF : eS F d
        · exact Or.inr ⟨rfl, h2⟩
        · exact Or.inl (Or.inr ⟨h1, rfl⟩)
  · refine b6 (fun d hd => ?_) h2 (a6 h1 (fun d hd => h2 d (b1 d hd)) h3)
    rcases (a2 d).mp hd with h | h
    · exact a1 d (h1 d h)
    · exact h.2
theorem addF_S (E : EE) (d x : Nat) : eS (addF E d) x = true ↔ eS E x = true ∨ x = d := by
  cases h : eS E d
  · rw [addF_f h]
    show va_up (eS E) d true x = true ↔ _
    by_cases e : x = d
    · rw [e, va_up_self]; exact ⟨fun _ => Or.inr rfl, fun _ => rfl⟩
    · rw [va_up_ne _ _ e]; exact ⟨fun q => Or.inl q, fun q => q.resolve_right e⟩
  · rw [addF_t h]
    exact ⟨fun q => Or.inl q, fun q => by rcases q with q | q; exact q; rw [q]; exact h⟩
theorem addF_adds (E : EE) (d : Nat) : adds E (addF E d) := by
  cases h : eS E d
  · rw [addF_f h]
    refine ⟨fun x hx => ?_, fun x => ?_, rfl, rfl, rfl, fun h1 h2 h3 => ?_⟩
    · show va_up (eS E) d true x = true
      by_cases e : x = d
      · rw [e, va_up_self]
      · rw [va_up_ne _ _ e]; exact hx
    · show va_up (eP E) d true x = true ↔ _ ∨ (_ ∧ va_up (eS E) d true x = true)
      by_cases e : x = d
      · rw [e, va_up_self, va_up_self]
        exact ⟨fun _ => Or.inr ⟨h, rfl⟩, fun _ => rfl⟩
      · rw [va_up_ne _ _ e, va_up_ne _ _ e]
        exact ⟨fun q => Or.inl q, fun q => by rcases q with q | ⟨q1, q2⟩; exact q; rw [q1] at q2; cases q2⟩
    · have hd : d < 19440 := h2 d (va_up_self _ _ _)
      have hp : eP E d = false := by
        cases q : eP E d
        · rfl
        · rw [h1 d q] at h; cases h
      show eN E + 1 = cnt (va_up (eP E) d true) 19440
      rw [cnt_up hd hp, h3]
  · rw [addF_t h]
    exact adds.rf E
theorem itA_adds (E : EE) (b : Nat → Bool) (f : Nat → Nat) (n : Nat) : adds E (itA E b f n) := by
  induction n with
  | zero => exact adds.rf E
  | succ n ih =>
    rw [itA]
    split
    · exact ih.tr (addF_adds _ _)
    · exact ih
theorem itA_S (E : EE) (b : Nat → Bool) (f : Nat → Nat) (n x : Nat) : eS (itA E b f n) x = true ↔ eS E x = true ∨ ∃ k, k < n ∧ b k = true ∧ f k = x := by
  induction n with
  | zero => exact ⟨fun h => Or.inl h, fun h => by rcases h with h | ⟨k, h, _⟩; exact h; exact absurd h (Nat.not_lt_zero _)⟩
  | succ n ih =>
    cases hb : b n
    · rw [itA_f hb, ih]
      constructor
      · rintro (h | ⟨k, h1, h2, h3⟩)
        · exact Or.inl h
        · exact Or.inr ⟨k, by omega, h2, h3⟩
      · rintro (h | ⟨k, h1, h2, h3⟩)
        · exact Or.inl h
        · refine Or.inr ⟨k, ?_, h2, h3⟩
          rcases Nat.lt_or_ge k n with q | q
          · exact q
          · have : k = n := by omega
            rw [this, hb] at h2; cases h2
    · rw [itA_t hb, addF_S, ih]
      constructor
      · rintro ((h | ⟨k, h1, h2, h3⟩) | h)
        · exact Or.inl h
        · exact Or.inr ⟨k, by omega, h2, h3⟩
        · exact Or.inr ⟨n, by omega, hb, h.symm⟩
      · rintro (h | ⟨k, h1, h2, h3⟩)
        · exact Or.inl (Or.inl h)
        · rcases Nat.lt_or_ge k n with q | q
          · exact Or.inl (Or.inr ⟨k, q, h2, h3⟩)
          · have : k = n := by omega
            rw [this] at h3; exact Or.inr h3.symm
theorem okD_lt {G : GG} (hG : okG G) {d : Nat} (h : okD G (d / 9 / 45) (d / 9 % 45) (d % 9)) : d < 19440 := by
  have h1 := h.1
  have h2 := hG.1
  omega
theorem okD_at {G : GG} {a b c0 d : Nat} (e : (a * 45 + b) * 9 + c0 = d) (hb : b < 45) (hc : c0 < 9) (h : okD G a b c0) : okD G (d / 9 / 45) (d / 9 % 45) (d % 9) := by
  have e1 : d / 9 / 45 = a := by omega
  have e2 : d / 9 % 45 = b := by omega
  have e3 : d % 9 = c0 := by omega
  rw [e1, e2, e3]
  exact h
/-- what was seen stays seen, and waits as it did -/
def keep (E E' : EE) : Prop := ∀ d, eS E d = true → eS E' d = true ∧ eP E' d = eP E d
theorem keep.rf (E : EE) : keep E E := fun _ h => ⟨h, rfl⟩
theorem keep.tr {E F K : EE} (a : keep E F) (b : keep F K) : keep E K := fun d h => ⟨(b d (a d h).1).1, (b d (a d h).1).2.trans (a d h).2⟩
theorem adds.keep {E F K : EE} (a : adds F K) (e1 : eS F = eS E) (e2 : eP F = eP E) : keep E K := by
  intro d h
  rw [← e1] at h
  refine ⟨a.1 d h, ?_⟩
  rw [← e2]
  cases hp : eP F d
  · cases hk : eP K d
    · rfl
    · rcases (a.2.1 d).mp hk with q | q
      · rw [hp] at q; cases q
      · rw [h] at q; cases q.1
  · exact (a.2.1 d).mpr (Or.inl hp)
/-- the step that all three share: a base state E0 differs from E only in callers, ended, opened, and grows; then descriptors are added -/
theorem inv_add {G : GG} {x : Nat → Prop} {E E0 : EE} (hG : okG G) (I : inv G x E) (hS0 : eS E0 = eS E) (hP0 : eP E0 = eP E) (hN0 : eN E0 = eN E) (hC0 : ∀ d, eC E d = true → eC E0 d = true) (hE0 : ∀ d, eE E d = true → eE E0 d = true) (hO0 : ∀ d, eO E d = true → eO E0 d = true) (b : Nat → Bool) (f : Nat → Nat) (n : Nat)
    (hok : ∀ k, k < n → b k = true → okD G (f k / 9 / 45) (f k / 9 % 45) (f k % 9)) (H4 : ∀ v k q, v < 45 → k < 2160 → q < 9 → eC E0 (2176 * v + k) = true → eE E0 (32 * v + q) = true → eS E (k * 9 + q) = true ∨ ∃ i, i < n ∧ b i = true ∧ f i = k * 9 + q)
    (H5 : ∀ v, v < 45 → eO E0 v = true → ∀ r, r < gCn G → gLf G r = v / 9 → eS E (callD v r) = true ∨ ∃ i, i < n ∧ b i = true ∧ f i = callD v r) (H6 : ∀ v q, v < 45 → q < 32 → eE E0 (32 * v + q) = true → q ≤ gSi G ∧ FX G (v / 9) (v % 9) q) (H7 : ∀ v k, v < 45 → k < 2176 → eC E0 (2176 * v + k) = true → okW G v k) :
    inv G x (itA E0 b f n) ∧ ext E (itA E0 b f n) ∧ keep E (itA E0 b f n) := by
  obtain ⟨i1, i2, i3, i4, i5, i6, i7, i8⟩ := I
  have A := itA_adds E0 b f n
  have S := itA_S E0 b f n
  have K := A.keep hS0 hP0
  obtain ⟨E1, hE1⟩ : ∃ E1, E1 = itA E0 b f n := ⟨_, rfl⟩
  rw [← hE1] at A S K ⊢
  obtain ⟨a1, a2, a3, a4, a5, a6⟩ := A
  rw [hS0, hP0] at a2
  rw [hS0] at a1 S
  rw [hP0, hS0, hN0] at a6
  have hx : ext E E1 := ⟨a1, fun d q => by rw [a3]; exact hC0 d q, fun d q => by rw [a4]; exact hE0 d q, fun d q => by rw [a5]; exact hO0 d q⟩
  have j2 : ∀ d, eS E1 d = true → okD G (d / 9 / 45) (d / 9 % 45) (d % 9) := by
    intro d hd
    rcases (S d).mp hd with q | ⟨r, r1, r2, r3⟩
    · exact i2 d q
    · rw [← r3]; exact hok r r1 r2
  refine ⟨⟨fun d hd => ?_, j2, fun d hd => ?_, fun v' k q h1 h2 h3 h4 h5 => ?_, fun v' h1 h2 r h3 h4 => ?_, fun v' q h1 h2 h3 => ?_, fun v' k h1 h2 h3 => ?_, ?_⟩, hx, K⟩
  · rcases (a2 d).mp hd with q | q
    · exact a1 d (i1 d q)
    · exact q.2
  · cases hE : eS E d
    · exact Or.inl ((a2 d).mpr (Or.inr ⟨hE, hd⟩))
    · rcases i3 d hE with q | q | q
      · exact Or.inl ((a2 d).mpr (Or.inl q))
      · exact Or.inr (Or.inl (q.ext hx))
      · exact Or.inr (Or.inr q)
  · rw [a3] at h4
    rw [a4] at h5
    exact (S _).mpr (H4 v' k q h1 h2 h3 h4 h5)
  · rw [a5] at h2
    exact (S _).mpr (H5 v' h1 h2 r h3 h4)
  · rw [a4] at h3
    exact H6 v' q h1 h2 h3
  · rw [a3] at h3
    exact H7 v' k h1 h2 h3
  · exact a6 i1 (fun d hd => okD_lt hG (j2 d hd)) i8
theorem up_mono {B : Nat → Bool} {k : Nat} : ∀ d, B d = true → va_up B k true d = true := by
  intro d h
  by_cases e : d = k
  · rw [e, va_up_self]
  · rw [va_up_ne _ _ e]; exact h
theorem inv_call {G : GG} {x : Nat → Prop} {E : EE} (hG : okG G) (I : inv G x E) {v : Nat} (hv : v < 45) (hp : v % 9 ≤ gSi G) : inv G x (callF G E v) ∧ ext E (callF G E v) ∧ keep E (callF G E v) ∧ eO (callF G E v) v = true := by
  unfold callF
  by_cases h : eO E v = true
  · rw [if_pos h]
    exact ⟨I, ext.rf E, keep.rf E, h⟩
  · rw [if_neg h]
    obtain ⟨j1, j2, j3⟩ := inv_add (E0 := sEO E (va_up (eO E) v true)) hG I rfl rfl rfl (fun _ q => q) (fun _ q => q) up_mono (callB G v) (callD v) (gCn G) (by
        intro r h1 h2
        have r2 : gLf G r = v / 9 := of_decide_eq_true h2
        refine okD_at (a := 4 * r) (b := v) (c0 := v % 9) rfl hv (by omega) ⟨by omega, by omega, by rw [show 4 * r / 4 = r by omega]; exact r2, hp, ?_, hp⟩
        rw [show 4 * r % 4 = 0 by omega]
        rfl) (fun v' k q h1 h2 h3 h4 h5 => Or.inl (I.2.2.2.1 v' k q h1 h2 h3 h4 h5)) (by
        intro v' h1 h2 r h3 h4
        by_cases e : v' = v
        · subst e
          exact Or.inr ⟨r, h3, decide_eq_true h4, rfl⟩
        · have h2 : va_up (eO E) v true v' = true := h2
          rw [va_up_ne _ _ e] at h2
          exact Or.inl (I.2.2.2.2.1 v' h1 h2 r h3 h4)) I.2.2.2.2.2.1 I.2.2.2.2.2.2.1
    refine ⟨j1, j2, j3, ?_⟩
    rw [itA_O]
    exact va_up_self _ _ _
theorem okD_next {G : GG} {v k q : Nat} (hv : v < 45) (W : okW G v k) (hq : q ≤ gSi G) (hF : FX G (v / 9) (v % 9) q) : okD G (k / 45) (k % 45) q := by
  obtain ⟨w1, w2, w3, w4, w5, w6, w7, w8⟩ := W
  refine ⟨w3, w4, w6, hq, ?_, w8⟩
  rw [show k / 45 % 4 = (k / 45 % 4 - 1) + 1 by omega]
  refine ⟨v % 9, w7, Or.inr ⟨?_, ?_⟩⟩
  · show gRt G _ < 5
    rw [w5]; omega
  · show FX G (gRt G _) _ _
    rw [w5]; exact hF
theorem inv_fin {G : GG} {x : Nat → Prop} {E : EE} (hG : okG G) (I : inv G x E) {v c0 : Nat} (hv : v < 45) (hc : c0 ≤ gSi G) (hF : FX G (v / 9) (v % 9) c0) : inv G x (finF E v c0) ∧ ext E (finF E v c0) ∧ keep E (finF E v c0) ∧ eE (finF E v c0) (32 * v + c0) = true := by
  have hc9 : c0 < 9 := by have := hG.2.1; omega
  unfold finF
  by_cases h : eE E (32 * v + c0) = true
  · rw [if_pos h]
    exact ⟨I, ext.rf E, keep.rf E, h⟩
  · rw [if_neg h]
    obtain ⟨j1, j2, j3⟩ := inv_add (E0 := sEE E (va_up (eE E) (32 * v + c0) true)) hG I rfl rfl rfl (fun _ q => q) up_mono (fun _ q => q) (finB E v) (finD c0) 2160 (by
        intro k h1 h2
        exact okD_at (a := k / 45) (b := k % 45) (c0 := c0) rfl (by omega) hc9 (okD_next hv (I.2.2.2.2.2.2.1 v k hv (by omega) h2) hc hF)) (by
        intro v' k q h1 h2 h3 h4 h5
        by_cases e : 32 * v' + q = 32 * v + c0
        · have e1 : v' = v := by omega
          have e2 : q = c0 := by omega
          subst e1
          subst e2
          exact Or.inr ⟨k, h2, h4, by show (k / 45 * 45 + k % 45) * 9 + q = k * 9 + q; omega⟩
        · have h5 : va_up (eE E) (32 * v + c0) true (32 * v' + q) = true := h5
          rw [va_up_ne _ _ e] at h5
          exact Or.inl (I.2.2.2.1 v' k q h1 h2 h3 h4 h5)) (fun v' h1 h2 r h3 h4 => Or.inl (I.2.2.2.2.1 v' h1 h2 r h3 h4)) (by
        intro v' q h1 h2 h3
        by_cases e : 32 * v' + q = 32 * v + c0
        · have e1 : v' = v := by omega
          have e2 : q = c0 := by omega
          subst e1
          subst e2
          exact ⟨hc, hF⟩
        · have h3 : va_up (eE E) (32 * v + c0) true (32 * v' + q) = true := h3
          rw [va_up_ne _ _ e] at h3
          exact I.2.2.2.2.2.1 v' q h1 h2 h3) I.2.2.2.2.2.2.1
    refine ⟨j1, j2, j3, ?_⟩
    rw [itA_E]
    exact va_up_self _ _ _
/-- who is waited for is opened -/
def inv9 (E : EE) : Prop := ∀ v k, v < 45 → k < 2176 → eC E (2176 * v + k) = true → eO E v = true
theorem callF_C (G : GG) (E : EE) (v : Nat) : eC (callF G E v) = eC E := by
  unfold callF
  split
  · rfl
  · rw [itA_C]; rfl
theorem finF_C (E : EE) (v c0 : Nat) : eC (finF E v c0) = eC E := by
  unfold finF
  split
  · rfl
  · rw [itA_C]; rfl
theorem finF_O (E : EE) (v c0 : Nat) : eO (finF E v c0) = eO E := by
  unfold finF
  split
  · rfl
  · rw [itA_O]; rfl
theorem inv_att {G : GG} {x : Nat → Prop} {E : EE} (hG : okG G) (I : inv G x E) (I9 : inv9 E) {v a b : Nat} (hv : v < 45) (hp : v % 9 ≤ gSi G) (hb : b < 45) (hW : okW G v (a * 45 + b)) : inv G x (attF G E v a b) ∧ ext E (attF G E v a b) ∧ keep E (attF G E v a b) ∧ eC (attF G E v a b) (2176 * v + (a * 45 + b)) = true ∧ eO (attF G E v a b) v = true ∧ inv9 (attF G E v a b) := by
  have hK := hW.1
  unfold attF
  by_cases h : eC E (2176 * v + (a * 45 + b)) = true
  · rw [if_pos h]
    exact ⟨I, ext.rf E, keep.rf E, h, I9 v _ hv (by omega) h, I9⟩
  · rw [if_neg h]
    obtain ⟨j1, j2, j3⟩ := inv_add (E0 := sEC E (va_up (eC E) (2176 * v + (a * 45 + b)) true)) hG I rfl rfl rfl up_mono (fun _ q => q) (fun _ q => q) (attB E v) (attD a b) 9 (by
        intro q h1 h2
        have z := I.2.2.2.2.2.1 v q hv (by omega) h2
        have y := okD_next hv hW z.1 z.2
        rw [show (a * 45 + b) / 45 = a by omega, show (a * 45 + b) % 45 = b by omega] at y
        exact okD_at (a := a) (b := b) (c0 := q) rfl hb (by omega) y) (by
        intro v' k q h1 h2 h3 h4 h5
        by_cases e : 2176 * v' + k = 2176 * v + (a * 45 + b)
        · have e1 : v' = v := by omega
          have e2 : k = a * 45 + b := by omega
          subst e1
          exact Or.inr ⟨q, h3, h5, by show (a * 45 + b) * 9 + q = k * 9 + q; rw [e2]⟩
        · have h4 : va_up (eC E) (2176 * v + (a * 45 + b)) true (2176 * v' + k) = true := h4
          rw [va_up_ne _ _ e] at h4
          exact Or.inl (I.2.2.2.1 v' k q h1 h2 h3 h4 h5)) (fun v' h1 h2 r h3 h4 => Or.inl (I.2.2.2.2.1 v' h1 h2 r h3 h4)) I.2.2.2.2.2.1 (by
        intro v' k h1 h2 h3
        by_cases e : 2176 * v' + k = 2176 * v + (a * 45 + b)
        · have e1 : v' = v := by omega
          have e2 : k = a * 45 + b := by omega
          subst e1
          rw [e2]
          exact hW
        · have h3 : va_up (eC E) (2176 * v + (a * 45 + b)) true (2176 * v' + k) = true := h3
          rw [va_up_ne _ _ e] at h3
          exact I.2.2.2.2.2.2.1 v' k h1 h2 h3)
    obtain ⟨k1, k2, k3, k4⟩ := inv_call hG j1 hv hp
    refine ⟨k1, j2.tr k2, j3.tr k3, k2.2.1 _ ?_, k4, ?_⟩
    · rw [itA_C]
      exact va_up_self _ _ _
    · intro v' k h1 h2 h3
      rw [callF_C, itA_C] at h3
      have h3 : va_up (eC E) (2176 * v + (a * 45 + b)) true (2176 * v' + k) = true := h3
      by_cases e : 2176 * v' + k = 2176 * v + (a * 45 + b)
      · have e1 : v' = v := by omega
        rw [e1]; exact k4
      · rw [va_up_ne _ _ e] at h3
        exact (j2.tr k2).2.2.2 _ (I9 v' k h1 h2 h3)
theorem inv_hand {G : GG} {x : Nat → Prop} {E : EE} (hG : okG G) (I : inv G x E) (I9 : inv9 E) {a v q : Nat} (hv : v < 45) (hq : q < 9) (ho : okD G a v q) : inv G x (handF G E a v q) ∧ ext E (handF G E a v q) ∧ keep E (handF G E a v q) ∧ inv9 (handF G E a v q) ∧ done G (handF G E a v q) a v q := by
  obtain ⟨o1, o2, o3, o4, o5, o6⟩ := ho
  have g1 := hG.2.2.1 (a / 4) o1
  unfold handF
  by_cases h : a % 4 = gSz G (a / 4)
  · rw [if_pos h]
    have hF : FX G (v / 9) (v % 9) q := by
      rw [← o3]
      exact Fits_closed (vX G) (a / 4) o1 (v % 9) o6 q (by rw [h] at o5; exact o5)
    obtain ⟨j1, j2, j3, j4⟩ := inv_fin hG I hv o4 hF
    refine ⟨j1, j2, j3, ?_, fun _ => j4, fun c => absurd h c, fun c => absurd h c⟩
    intro v' k h1 h2 h3
    rw [finF_C] at h3
    rw [finF_O]
    exact I9 v' k h1 h2 h3
  · rw [if_neg h]
    have hs := g1.2.2 (a % 4) (by omega)
    obtain ⟨sg, hsg⟩ : ∃ sg, sg = gRt G (3 * (a / 4) + a % 4) := ⟨_, rfl⟩
    rw [← hsg] at hs ⊢
    by_cases h5 : 5 ≤ sg
    · rw [if_pos h5]
      by_cases hm : q < gSi G ∧ gTx G q = sg
      · rw [if_pos hm]
        have e : addF E (((a + 1) * 45 + v) * 9 + (q + 1)) = itA E (fun _ => true) (fun _ => ((a + 1) * 45 + v) * 9 + (q + 1)) 1 := rfl
        obtain ⟨j1, j2, j3⟩ := inv_add (E0 := E) hG I rfl rfl rfl (fun _ q => q) (fun _ q => q) (fun _ q => q) (fun _ => true) (fun _ => ((a + 1) * 45 + v) * 9 + (q + 1)) 1 (by
            intro k _ _
            refine okD_at (a := a + 1) (b := v) (c0 := q + 1) rfl hv (by have := hG.2.1; omega) ⟨?_, ?_, ?_, by omega, ?_, o6⟩
            · rw [show (a + 1) / 4 = a / 4 by omega]; exact o1
            · rw [show (a + 1) / 4 = a / 4 by omega]; omega
            · rw [show (a + 1) / 4 = a / 4 by omega]; exact o3
            · rw [show (a + 1) / 4 = a / 4 by omega, show (a + 1) % 4 = a % 4 + 1 by omega]
              exact ⟨q, o5, Or.inl ⟨by show 5 ≤ gRt G _; rw [← hsg]; exact h5, hm.1, by show gTx G q = gRt G _; rw [← hsg]; exact hm.2, rfl⟩⟩) (fun v' k q h1 h2 h3 h4 h5 => Or.inl (I.2.2.2.1 v' k q h1 h2 h3 h4 h5)) (fun v' h1 h2 r h3 h4 => Or.inl (I.2.2.2.2.1 v' h1 h2 r h3 h4)) I.2.2.2.2.2.1 I.2.2.2.2.2.2.1
        rw [← e] at j1 j2 j3
        refine ⟨j1, j2, j3, ?_, fun c => absurd c h, fun _ _ _ _ => (addF_S _ _ _).mpr (Or.inr rfl), fun _ c => absurd c (by rw [← hsg]; omega)⟩
        intro v' k h1 h2 h3
        rw [addF_C] at h3
        rw [addF_O]
        exact I9 v' k h1 h2 h3
      · rw [if_neg hm]
        exact ⟨I, ext.rf E, keep.rf E, I9, fun c => absurd c h, fun _ _ c1 c2 => absurd ⟨c1, by rw [hsg]; exact c2⟩ hm, fun _ c => absurd c (by rw [← hsg]; omega)⟩
    · rw [if_neg h5]
      have hW : okW G (9 * sg + q) ((a + 1) * 45 + v) := by
        refine ⟨by have := hG.1; omega, ?_, ?_, ?_, ?_, ?_, ?_, ?_⟩
        · rw [show ((a + 1) * 45 + v) / 45 = a + 1 by omega]; omega
        · rw [show ((a + 1) * 45 + v) / 45 / 4 = a / 4 by omega]; exact o1
        · rw [show ((a + 1) * 45 + v) / 45 / 4 = a / 4 by omega, show ((a + 1) * 45 + v) / 45 = a + 1 by omega]; omega
        · rw [show ((a + 1) * 45 + v) / 45 / 4 = a / 4 by omega, show ((a + 1) * 45 + v) / 45 % 4 - 1 = a % 4 by omega, ← hsg]; omega
        · rw [show ((a + 1) * 45 + v) / 45 / 4 = a / 4 by omega, show ((a + 1) * 45 + v) % 45 = v by omega]; exact o3
        · rw [show ((a + 1) * 45 + v) / 45 / 4 = a / 4 by omega, show ((a + 1) * 45 + v) % 45 = v by omega, show ((a + 1) * 45 + v) / 45 % 4 - 1 = a % 4 by omega, show (9 * sg + q) % 9 = q by omega]; exact o5
        · rw [show ((a + 1) * 45 + v) % 45 = v by omega]; exact o6
      obtain ⟨j1, j2, j3, j4, j5, j6⟩ := inv_att (a := a + 1) (b := v) hG I I9 (v := 9 * sg + q) (by omega) (by rw [show (9 * sg + q) % 9 = q by omega]; exact o4) hv hW
      exact ⟨j1, j2, j3, j6, fun c => absurd c h, fun _ c => absurd c (by rw [← hsg]; omega), fun _ _ => by rw [← hsg]; exact ⟨j4, j5⟩⟩
abbrev none_ : Nat → Prop := fun _ => False
theorem inv_pop {G : GG} {E : EE} (hG : okG G) (I : inv G none_ E) {d : Nat} (h : eP E d = true) : inv G (fun x => x = d) (popF E d) := by
  obtain ⟨i1, i2, i3, i4, i5, i6, i7, i8⟩ := I
  refine ⟨fun x hx => ?_, i2, fun x hx => ?_, i4, i5, i6, i7, ?_⟩
  · have hx : va_up (eP E) d false x = true := hx
    by_cases e : x = d
    · rw [e, va_up_self] at hx; cases hx
    · rw [va_up_ne _ _ e] at hx; exact i1 x hx
  · by_cases e : x = d
    · exact Or.inr (Or.inr e)
    · rcases i3 x hx with q | q | q
      · left
        show va_up (eP E) d false x = true
        rw [va_up_ne _ _ e]; exact q
      · exact Or.inr (Or.inl (q.ext ⟨fun _ z => z, fun _ z => z, fun _ z => z, fun _ z => z⟩))
      · exact q.elim
  · show eN E - 1 = cnt (va_up (eP E) d false) 19440
    have z := cnt_dn (okD_lt hG (i2 d (i1 d h))) h
    omega
theorem inv_step {G : GG} {E : EE} (hG : okG G) (I : inv G none_ E) (I9 : inv9 E) (d : Nat) : inv G none_ (stepF G E d) ∧ ext E (stepF G E d) ∧ inv9 (stepF G E d) ∧ (∀ x, eS E x = true → x ≠ d → eP (stepF G E d) x = eP E x) ∧ (eP E d = true → eP (stepF G E d) d = false) := by
  unfold stepF
  by_cases h : eP E d = true
  · rw [if_pos h]
    have J := inv_pop hG I h
    have hs : eS E d = true := I.1 d h
    have o := I.2.1 d hs
    obtain ⟨j1, j2, j3, j4, j5⟩ := inv_hand hG J (show inv9 (popF E d) from I9) (by omega) (by omega) o
    have j2 : ext E _ := j2
    refine ⟨⟨j1.1, j1.2.1, fun x hx => ?_, j1.2.2.2⟩, j2, j4, fun x hx e => ?_, fun _ => ?_⟩
    · rcases j1.2.2.1 x hx with q | q | q
      · exact Or.inl q
      · exact Or.inr (Or.inl q)
      · subst q
        exact Or.inr (Or.inl j5)
    · have z := (j3 x hx).2
      rw [z]
      exact va_up_ne _ _ e
    · have z := (j3 d hs).2
      rw [z]
      exact va_up_self _ _ _
  · rw [if_neg h]
    exact ⟨I, ext.rf E, I9, fun _ _ _ => rfl, fun q => absurd q h⟩
/-- the sweep, flat -/
def fl (G : GG) (E : EE) : Nat → EE
  | 0 => E
  | n + 1 => stepF G (fl G E n) n
def hdl (E : EE) : Nat := cnt (fun d => eS E d && !eP E d) 19440
theorem inv_fl {G : GG} {E : EE} (hG : okG G) (I : inv G none_ E) (I9 : inv9 E) : ∀ n, inv G none_ (fl G E n) ∧ ext E (fl G E n) ∧ inv9 (fl G E n) ∧ (∀ x, n ≤ x → eS E x = true → eP (fl G E n) x = eP E x) ∧ hdl E ≤ hdl (fl G E n) ∧ (∀ x, x < n → eP E x = true → hdl E + 1 ≤ hdl (fl G E n)) := by
  intro n
  induction n with
  | zero => exact ⟨I, ext.rf E, I9, fun _ _ _ => rfl, Nat.le_refl _, fun x h => absurd h (Nat.not_lt_zero _)⟩
  | succ n ih =>
    obtain ⟨j1, j2, j3, j4, j5, j6⟩ := ih
    obtain ⟨k1, k2, k3, k4, k5⟩ := inv_step hG j1 j3 n
    have mono : ∀ d, d < 19440 → (eS (fl G E n) d && !eP (fl G E n) d) = true → (eS (stepF G (fl G E n) n) d && !eP (stepF G (fl G E n) n) d) = true := by
      intro d hd q
      rw [Bool.and_eq_true, Bool.not_eq_true'] at q ⊢
      refine ⟨k2.1 d q.1, ?_⟩
      by_cases e : d = n
      · subst e
        have : stepF G (fl G E d) d = fl G E d := by unfold stepF; rw [if_neg (by rw [q.2]; exact Bool.false_ne_true)]
        rw [this]; exact q.2
      · rw [k4 d q.1 e]; exact q.2
    have hm : hdl (fl G E n) ≤ hdl (stepF G (fl G E n) n) := cnt_mono mono
    refine ⟨k1, j2.tr k2, k3, fun x hx hs => ?_, Nat.le_trans j5 hm, fun x hx hp => ?_⟩
    · show eP (stepF G (fl G E n) n) x = _
      rw [k4 x (j2.1 x hs) (by omega)]
      exact j4 x (by omega) hs
    · show hdl E + 1 ≤ hdl (stepF G (fl G E n) n)
      rcases Nat.lt_or_ge x n with q | q
      · exact Nat.le_trans (j6 x q hp) hm
      · have e : x = n := by omega
        subst e
        have hs := I.1 x hp
        have hp2 : eP (fl G E x) x = true := by rw [j4 x (Nat.le_refl _) hs]; exact hp
        have st : hdl (fl G E x) + 1 ≤ hdl (stepF G (fl G E x) x) := cnt_st (k := x) (okD_lt hG (I.2.1 x hs)) mono (by rw [hp2]; simp) (by rw [k2.1 x (j2.1 x hs), k5 hp2]; rfl)
        omega
theorem hwF_fl (G : GG) (E : EE) (w : Nat) : ∀ k, hwF G (fl G E (32 * w)) w k = fl G E (32 * w + k) := by
  intro k
  induction k with
  | zero => rfl
  | succ k ih => rw [hwF, ih]; rfl
theorem swF_fl (G : GG) (E : EE) : ∀ w, swF G E w = fl G E (32 * w) := by
  intro w
  induction w with
  | zero => rfl
  | succ w ih => rw [swF, ih, hwF_fl]; rfl
theorem inv_hw {G : GG} {E : EE} (hG : okG G) (I : inv G none_ E) (I9 : inv9 E) (w : Nat) : ∀ k, inv G none_ (hwF G E w k) ∧ inv9 (hwF G E w k) := by
  intro k
  induction k with
  | zero => exact ⟨I, I9⟩
  | succ k ih =>
    have z := inv_step hG ih.1 ih.2 (32 * w + k)
    exact ⟨z.1, z.2.2.1⟩
theorem hwF_nil {G : GG} {E : EE} {w : Nat} (h : ∀ i, i < 32 → eP E (32 * w + i) = false) : ∀ k, k ≤ 32 → hwF G E w k = E := by
  intro k
  induction k with
  | zero => exact fun _ => rfl
  | succ k ih =>
    intro hk
    rw [hwF, ih (by omega), stepF, if_neg (by rw [h k (by omega)]; exact Bool.false_ne_true)]
/-- a sweep: the invariant stays, and something is handled if something waits -/
theorem inv_sw {G : GG} {E : EE} (hG : okG G) (I : inv G none_ E) (I9 : inv9 E) (w : Nat) : inv G none_ (swF G E w) ∧ ext E (swF G E w) ∧ inv9 (swF G E w) := by
  rw [swF_fl]
  have z := inv_fl hG I I9 (32 * w)
  exact ⟨z.1, z.2.1, z.2.2.1⟩
theorem sw_more {G : GG} {E : EE} (hG : okG G) (I : inv G none_ E) (I9 : inv9 E) (h : 0 < eN E) : hdl E + 1 ≤ hdl (swF G E 608) := by
  rw [swF_fl]
  rw [I.2.2.2.2.2.2.2] at h
  obtain ⟨d, h1, h2⟩ := cnt_pos h
  exact (inv_fl hG I I9 (32 * 608)).2.2.2.2.2 d (by omega) h2
theorem hdl_le (E : EE) : hdl E ≤ 19440 := cnt_le _ _
theorem inv_nil (G : GG) : inv G none_ nilF ∧ inv9 nilF := by
  refine ⟨⟨fun _ h => ?_, fun _ h => ?_, fun _ h => ?_, fun _ _ _ _ _ _ h => ?_, fun _ _ h => ?_, fun _ _ _ _ h => ?_, fun _ _ _ _ h => ?_, ?_⟩, fun _ _ _ _ h => ?_⟩
  · exact absurd h Bool.false_ne_true
  · exact absurd h Bool.false_ne_true
  · exact absurd h Bool.false_ne_true
  · exact absurd h Bool.false_ne_true
  · exact absurd h Bool.false_ne_true
  · exact absurd h Bool.false_ne_true
  · exact absurd h Bool.false_ne_true
  · show 0 = cnt (fun _ => false) 19440
    rcases Nat.eq_zero_or_pos (cnt (fun _ => false) 19440) with h | h
    · exact h.symm
    · obtain ⟨_, _, h2⟩ := cnt_pos h
      exact absurd h2 Bool.false_ne_true
  · exact absurd h Bool.false_ne_true
/-- THE END: with nothing waiting, an opened node's ends are just what fits -/
theorem gll_end {G : GG} {E : EE} (hG : okG G) (I : inv G none_ E) (h0 : eN E = 0) {n i j : Nat} (hn : n < 5) (hi : i ≤ gSi G) (hj : j < 32) (hO : eO E (9 * n + i) = true) : eE E (32 * (9 * n + i) + j) = true ↔ FX G n i j := by
  have g2 := hG.2.1
  obtain ⟨i1, i2, i3, i4, i5, i6, i7, i8⟩ := I
  have hP : ∀ d, eS E d = true → done G E (d / 9 / 45) (d / 9 % 45) (d % 9) := by
    intro d hd
    rcases i3 d hd with q | q | q
    · rw [h0] at i8
      rw [cnt_0 i8.symm d (okD_lt hG (i2 d hd))] at q
      cases q
    · exact q
    · exact q.elim
  have dn : ∀ a v q, v < 45 → q < 9 → eS E ((a * 45 + v) * 9 + q) = true → done G E a v q := by
    intro a v q hv hq hd
    have z := hP _ hd
    rw [show ((a * 45 + v) * 9 + q) / 9 / 45 = a by omega, show ((a * 45 + v) * 9 + q) / 9 % 45 = v by omega, show ((a * 45 + v) * 9 + q) % 9 = q by omega] at z
    exact z
  constructor
  · intro h
    have z := (i6 (9 * n + i) j (by omega) hj h).2
    rw [show (9 * n + i) / 9 = n by omega, show (9 * n + i) % 9 = i by omega] at z
    exact z
  · intro h
    have cl : closedT (vX G) (fun n i j => n < 5 → i < 9 → eO E (9 * n + i) = true → j < 9 ∧ eE E (32 * (9 * n + i) + j) = true) := by
      intro r hr i hi q hp hn hi9 hO
      have hr : r < gCn G := hr
      have hi : i ≤ gSi G := hi
      have g3 := hG.2.2.1 r hr
      have key : ∀ k, k ≤ gSz G r → ∀ p, preT (vX G) (fun n i j => n < 5 → i < 9 → eO E (9 * n + i) = true → j < 9 ∧ eE E (32 * (9 * n + i) + j) = true) r i k p → eS E (((4 * r + k) * 45 + (9 * gLf G r + i)) * 9 + p) = true ∧ p ≤ gSi G := by
        intro k
        induction k with
        | zero =>
          intro _ p hp
          have e : p = i := hp
          subst e
          have z := i5 (9 * gLf G r + p) (by omega) hO r hr (by omega)
          refine ⟨?_, hi⟩
          rw [show ((4 * r + 0) * 45 + (9 * gLf G r + p)) * 9 + p = callD (9 * gLf G r + p) r by unfold callD; omega]
          exact z
        | succ k ih =>
          intro hk p hp
          obtain ⟨p', hp1, hp2⟩ := hp
          obtain ⟨s1, s2⟩ := ih (by omega) p' hp1
          obtain ⟨d1, d2, d3⟩ := dn (4 * r + k) (9 * gLf G r + i) p' (by omega) (by omega) s1
          rw [show (4 * r + k) / 4 = r by omega, show (4 * r + k) % 4 = k by omega] at d1 d2 d3
          rcases hp2 with ⟨c1, c2, c3, c4⟩ | ⟨c1, c2⟩
          · have z := d2 (by omega) c1 c2 c3
            have c2 : p' < gSi G := c2
            rw [c4]
            exact ⟨by rw [show 4 * r + (k + 1) = 4 * r + k + 1 by omega]; exact z, by omega⟩
          · have c1 : gRt G (3 * r + k) < 5 := c1
            obtain ⟨z1, z2⟩ := d3 (by omega) c1
            obtain ⟨y1, y2⟩ := c2 c1 (by omega) z2
            have y2 : eE E (32 * (9 * gRt G (3 * r + k) + p') + p) = true := y2
            have x1 := i4 (9 * gRt G (3 * r + k) + p') ((4 * r + k + 1) * 45 + (9 * gLf G r + i)) p (by omega) (by have := hG.1; omega) y1 z1 y2
            exact ⟨by rw [show 4 * r + (k + 1) = 4 * r + k + 1 by omega]; exact x1, (i6 (9 * gRt G (3 * r + k) + p') p (by omega) (by omega) y2).1⟩
      obtain ⟨s1, s2⟩ := key (gSz G r) (Nat.le_refl _) q hp
      have z := (dn (4 * r + gSz G r) (9 * gLf G r + i) q (by have : gLf G r < 5 := hn; omega) (by omega) s1).1
      rw [show (4 * r + gSz G r) / 4 = r by omega, show (4 * r + gSz G r) % 4 = gSz G r by omega] at z
      exact ⟨by omega, z rfl⟩
    exact (h _ cl hn (by omega) hO).2
/-- a sign fits a stretch, as a Bool -/
noncomputable def sfb (V : VV) (s p q : Nat) : Bool := @decide (sgT V (Fits V) s p q) (Classical.propDecidable _)
theorem sfb_iff {V : VV} {s p q : Nat} : sfb V s p q = true ↔ sgT V (Fits V) s p q := @decide_eq_true_iff _ (Classical.propDecidable _)
theorem sfb_f {V : VV} {s p q : Nat} (h : ¬ sgT V (Fits V) s p q) : sfb V s p q = false := @decide_eq_false _ (Classical.propDecidable _) h
theorem sfb_eq {V : VV} {s p q : Nat} {b : Bool} (h : b = true ↔ sgT V (Fits V) s p q) : b = sfb V s p q := by
  cases hb : b
  · exact (sfb_f (fun z => by rw [hb] at h; exact absurd (h.mpr z) Bool.false_ne_true)).symm
  · exact (sfb_iff.mpr (h.mp hb)).symm
/-- a rule's row fits a stretch -/
noncomputable def rfb (V : VV) (r i j : Nat) : Bool := @decide (preT V (Fits V) r i (vSz V r) j) (Classical.propDecidable _)
theorem rfb_eq {V : VV} {r i j : Nat} {b : Bool} (h : b = true ↔ preT V (Fits V) r i (vSz V r) j) : b = rfb V r i j := by
  cases hb : b
  · exact (@decide_eq_false _ (Classical.propDecidable _) (fun z => by rw [hb] at h; exact absurd (h.mpr z) Bool.false_ne_true)).symm
  · exact (@decide_eq_true _ (Classical.propDecidable _) (h.mp hb)).symm
theorem sgT_in {V : VV} {s p q : Nat} (h : sgT V (Fits V) s p q) (hp : p ≤ vLn V) : p ≤ q ∧ q ≤ vLn V := by
  rcases h with ⟨_, h1, _, h2⟩ | ⟨_, h1⟩
  · omega
  · exact Fits_in h1 hp
theorem inv9_call (G : GG) (v : Nat) : inv9 (callF G nilF v) := by
  intro v' k _ _ h
  rw [callF_C] at h
  exact absurd h Bool.false_ne_true
theorem eN_le {G : GG} {x : Nat → Prop} {E : EE} (I : inv G x E) : eN E ≤ 19440 := by rw [I.2.2.2.2.2.2.2]; exact cnt_le _ _
end
section
/-! what the public methods answer and do, as functions (both classes) -/
theorem i32_nlt {a b : Int32} (h : ¬ a < b) : b ≤ a := by
  rw [Int32.le_iff_toInt_le]; rw [Int32.lt_iff_toInt_lt] at h; omega
theorem i32_nle {a b : Int32} (h : ¬ a ≤ b) : b < a := by
  rw [Int32.lt_iff_toInt_lt]; rw [Int32.le_iff_toInt_le] at h; omega
theorem i32_lt {a b : Int32} (h : a < b) : ¬ b ≤ a := by
  rw [Int32.le_iff_toInt_le]; rw [Int32.lt_iff_toInt_lt] at h; omega
theorem i32_le {a b : Int32} (h : a ≤ b) : ¬ b < a := by
  rw [Int32.lt_iff_toInt_lt]; rw [Int32.le_iff_toInt_le] at h; omega
/-- an int from 0 up to a bound is a number -/
theorem i32_of {a : Int32} {n : Nat} (hn : n < 2 ^ 31) (h0 : 0 ≤ a) (h : a ≤ nI n) : ∃ k, k ≤ n ∧ a = nI k := by
  obtain ⟨k, hk, e⟩ := nI_of (x := a) (i32_le h0)
  refine ⟨k, ?_, e⟩
  rw [e, nI_leI hk hn] at h
  exact h
theorem i32_ofl {a : Int32} {n : Nat} (hn : n < 2 ^ 31) (h0 : 0 ≤ a) (h : a < nI n) : ∃ k, k < n ∧ a = nI k := by
  obtain ⟨k, hk, e⟩ := nI_of (x := a) (i32_le h0)
  refine ⟨k, ?_, e⟩
  rw [e, nI_ltI hk hn] at h
  exact h
def isN (a : Int32) : Bool := decide (0 ≤ a ∧ a < nI 5)
def isS (a : Int32) : Bool := decide (0 ≤ a ∧ a ≤ nI 7)
def isR (cn : Nat) (a : Int32) : Bool := decide (0 ≤ a ∧ a < nI cn)
def isT (n : Nat) (i j : Int32) : Bool := decide (0 ≤ i ∧ i ≤ j ∧ j ≤ nI n)
theorem isN_of {a : Int32} (h : isN a = true) : ∃ n, n < 5 ∧ a = nI n := by
  have z := of_decide_eq_true h
  exact i32_ofl (by omega) z.1 z.2
theorem isS_of {a : Int32} (h : isS a = true) : ∃ n, n < 8 ∧ a = nI n := by
  have z := of_decide_eq_true h
  obtain ⟨k, h1, h2⟩ := i32_of (by omega) z.1 z.2
  exact ⟨k, by omega, h2⟩
theorem isR_of {a : Int32} {cn : Nat} (hc : cn ≤ 12) (h : isR cn a = true) : ∃ n, n < cn ∧ a = nI n := by
  have z := of_decide_eq_true h
  exact i32_ofl (by omega) z.1 z.2
theorem isT_of {n : Nat} {i j : Int32} (hn : n ≤ 8) (h : isT n i j = true) : ∃ p q, p ≤ q ∧ q ≤ n ∧ i = nI p ∧ j = nI q := by
  obtain ⟨z1, z2, z3⟩ := of_decide_eq_true h
  obtain ⟨q, q1, q2⟩ := i32_of (a := j) (by omega) (by rw [Int32.le_iff_toInt_le] at *; omega) z3
  rw [q2] at z2
  obtain ⟨p, p1, p2⟩ := i32_of (a := i) (by omega) z1 z2
  exact ⟨p, q, p1, q1, p2, q2⟩
/-- a row's number: its digits (base 9) are none 0 -/
def okR (R : Nat) : Bool := decide (R < 729 ∧ (R = 0 ∨ (R % 9 ≠ 0 ∧ (R / 9 = 0 ∨ R / 9 % 9 ≠ 0))))
def dsz (R : Nat) : Nat := if R = 0 then 0 else if R < 9 then 1 else if R < 81 then 2 else 3
def isW (b : Int32) : Bool := decide (0 ≤ b) && okR b.toNatClampNeg
theorem isW_of {b : Int32} (h : isW b = true) : ∃ R, okR R = true ∧ R < 729 ∧ b = nI R := by
  unfold isW at h
  rw [Bool.and_eq_true] at h
  have z := of_decide_eq_true h.2
  obtain ⟨k, hk, e⟩ := nI_of (x := b) (i32_le (of_decide_eq_true h.1))
  refine ⟨k, ?_, ?_, e⟩
  · rw [e, nI_clamp hk] at h; exact h.2
  · rw [e, nI_clamp hk] at z; exact z.1
theorem isW_nI {R : Nat} (h : R < 2 ^ 31) : isW (nI R) = okR R := by
  unfold isW
  rw [nI_clamp h, decide_eq_true (nI_pos' h)]
  rfl
theorem isW_neg {b : Int32} (h : b < 0) : isW b = false := by
  unfold isW
  rw [decide_eq_false (i32_lt h)]
  rfl
theorem isW_big {b : Int32} (h : nI 728 < b) : isW b = false := by
  cases hw : isW b
  · rfl
  · obtain ⟨R, _, h2, h3⟩ := isW_of hw
    rw [h3, nI_ltI (by omega) (by omega)] at h
    omega
/-- signs of a row, from its last digit on -/
def rwF (f : Nat → Nat) (base : Nat) : Nat → Nat → Nat → Nat
  | _, 0 => f
  | R, j + 1 => rwF (va_up f (base + j) (R % 9 - 1)) base (R / 9) j
def dgok : Nat → Nat → Prop
  | _, 0 => True
  | R, j + 1 => R % 9 ≠ 0 ∧ dgok (R / 9) j
theorem dgok_of {R : Nat} (h : okR R = true) : dgok R (dsz R) := by
  have z := of_decide_eq_true h
  unfold dsz
  split
  · trivial
  · split
    · exact ⟨by omega, trivial⟩
    · split
      · exact ⟨by omega, by omega, trivial⟩
      · exact ⟨by omega, by omega, by omega, trivial⟩
theorem dsz_a {R : Nat} (h : R = 0) : dsz R = 0 := if_pos h
theorem dsz_b {R : Nat} (h : R ≠ 0) (h2 : R < 9) : dsz R = 1 := by unfold dsz; rw [if_neg h, if_pos h2]
theorem dsz_c {R : Nat} (h : 9 ≤ R) (h2 : R < 81) : dsz R = 2 := by unfold dsz; rw [if_neg (by omega), if_neg (by omega), if_pos h2]
theorem dsz_d {R : Nat} (h : 81 ≤ R) : dsz R = 3 := by unfold dsz; rw [if_neg (by omega), if_neg (by omega), if_neg (by omega)]
theorem dsz_le (R : Nat) : dsz R ≤ 3 := by
  unfold dsz
  split
  · omega
  · split
    · omega
    · split <;> omega
/-- sign k of a row -/
def dsg (R k : Nat) : Nat := (if dsz R = k + 1 then R else if dsz R = k + 2 then R / 9 else R / 81) % 9 - 1
theorem dsg_lt {R k : Nat} : dsg R k < 8 := by
  unfold dsg
  generalize (if dsz R = k + 1 then R else if dsz R = k + 2 then R / 9 else R / 81) = z
  omega
theorem rwF_at {f : Nat → Nat} {base R k : Nat} (hk : k < dsz R) : rwF f base R (dsz R) (base + k) = dsg R k := by
  have h3 := dsz_le R
  unfold dsg
  rcases (show dsz R = 0 ∨ dsz R = 1 ∨ dsz R = 2 ∨ dsz R = 3 by omega) with e | e | e | e
  · omega
  · rw [e] at hk ⊢
    have e2 : k = 0 := by omega
    subst e2
    show va_up f (base + 0) (R % 9 - 1) (base + 0) = _
    rw [va_up_self]
    rfl
  · rw [e] at hk ⊢
    show va_up (va_up f (base + 1) (R % 9 - 1)) (base + 0) (R / 9 % 9 - 1) (base + k) = _
    rcases (show k = 0 ∨ k = 1 by omega) with e2 | e2
    · subst e2
      rw [va_up_self]
      rfl
    · subst e2
      rw [va_up_ne _ _ (by omega), va_up_self]
      rfl
  · rw [e] at hk ⊢
    show va_up (va_up (va_up f (base + 2) (R % 9 - 1)) (base + 1) (R / 9 % 9 - 1)) (base + 0) (R / 9 / 9 % 9 - 1) (base + k) = _
    rcases (show k = 0 ∨ k = 1 ∨ k = 2 by omega) with e2 | e2 | e2
    · subst e2
      rw [va_up_self, Nat.div_div_eq_div_mul]
      rfl
    · subst e2
      rw [va_up_ne _ _ (by omega), va_up_self]
      rfl
    · subst e2
      rw [va_up_ne _ _ (by omega), va_up_ne _ _ (by omega), va_up_self]
      rfl
theorem rwF_out {base : Nat} : ∀ (j R : Nat) (f : Nat → Nat) (t : Nat), t < base → rwF f base R j t = f t := by
  intro j
  induction j with
  | zero => exact fun _ _ _ _ => rfl
  | succ j ih =>
    intro R f t h
    rw [rwF, ih _ _ t h, va_up_ne _ _ (by omega)]
def ruleX (G : GG) (n R : Nat) : GG := sGCn (sGRt (sGSz (sGLf G (va_up (gLf G) (gCn G) n)) (va_up (gSz G) (gCn G) (dsz R))) (rwF (gRt G) (3 * gCn G) R (dsz R))) (gCn G + 1)
def ruleA (a b : Int32) (cn : Nat) : Int32 := if isN a = true then (if isW b = true then (if cn = 12 then -3 else nI cn) else -2) else -1
def ruleG (a b : Int32) (G : GG) : GG := if isN a = true then (if isW b = true then (if gCn G = 12 then G else ruleX G a.toNatClampNeg b.toNatClampNeg) else G) else G
/-- all places from lo to hi take what lies d further on -/
def shf (f : Nat → Nat) (lo hi d : Nat) : Nat → Nat := fun t => if lo ≤ t ∧ t < hi then f (t + d) else f t
theorem shf_0 (f : Nat → Nat) (lo d : Nat) : shf f lo lo d = f := by funext t; exact if_neg (by omega)
theorem shf_s {f : Nat → Nat} {lo hi d : Nat} (h : lo ≤ hi) : va_up (shf f lo hi d) hi (shf f lo hi d (hi + d)) = shf f lo (hi + 1) d := by
  funext t
  have e : shf f lo hi d (hi + d) = f (hi + d) := if_neg (by omega)
  rw [e]
  by_cases q : t = hi
  · subst q
    rw [va_up_self]
    exact (if_pos (by omega)).symm
  · rw [va_up_ne _ _ q]
    show (if _ then _ else _) = if _ then _ else _
    by_cases c1 : lo ≤ t ∧ t < hi
    · rw [if_pos c1, if_pos (by omega)]
    · rw [if_neg c1, if_neg (by omega)]
def dropS (G : GG) (r q t : Nat) : GG := (shf (gLf G) r q 1, shf (gRt G) (3 * r) t 3, shf (gSz G) r q 1, gTx G, gCn G, gSi G)
def dropX (G : GG) (r : Nat) : GG := sGCn (dropS G r (gCn G - 1) (3 * (gCn G - 1))) (gCn G - 1)
def dropA (a : Int32) (cn : Nat) : Int32 := if isR cn a = true then nI (cn - 1) else -1
def dropG (a : Int32) (G : GG) : GG := if isR (gCn G) a = true then dropX G a.toNatClampNeg else G
def isL (a : Int32) : Bool := decide (nI 5 ≤ a ∧ a ≤ nI 7)
theorem isL_of {a : Int32} (h : isL a = true) : ∃ n, 5 ≤ n ∧ n < 8 ∧ a = nI n := by
  have z := of_decide_eq_true h
  obtain ⟨k, k1, k2⟩ := i32_of (a := a) (by omega) (by
    have z1 := z.1
    have e := nI_toInt (n := 5) (by omega)
    rw [Int32.le_iff_toInt_le, e] at z1
    rw [Int32.le_iff_toInt_le, Int32.toInt_zero]
    omega) z.2
  refine ⟨k, ?_, by omega, k2⟩
  have z1 := z.1
  rw [k2, nI_leI (by omega) (by omega)] at z1
  exact z1
def pushA (a : Int32) (n : Nat) : Int32 := if isL a = true then (if n = 8 then -2 else nI (n + 1)) else -1
def pushG (a : Int32) (G : GG) : GG := if isL a = true then (if gSi G = 8 then G else sGSi (sGTx G (va_up (gTx G) (gSi G) a.toNatClampNeg)) (gSi G + 1)) else G
def popA (tx : Nat → Nat) (n : Nat) : Int32 := if n = 0 then -1 else nI (tx (n - 1))
def popG (G : GG) : GG := if gSi G = 0 then G else sGSi G (gSi G - 1)
/-- letters of a code, from its last digit on -/
def wrF : (Nat → Nat) → Nat → Nat → Nat → Nat
  | f, _, 0 => f
  | f, R, j + 1 => wrF (va_up f j (5 + R % 3)) (R / 3) j
theorem wrF_out : ∀ (j R : Nat) (f : Nat → Nat) (t : Nat), j ≤ t → wrF f R j t = f t := by
  intro j
  induction j with
  | zero => exact fun _ _ _ _ => rfl
  | succ j ih =>
    intro R f t h
    rw [wrF, ih _ _ t (by omega), va_up_ne _ _ (by omega)]
theorem wrF_in : ∀ (j R : Nat) (f g : Nat → Nat) (t : Nat), t < j → wrF f R j t = wrF g R j t ∧ 5 ≤ wrF f R j t ∧ wrF f R j t < 8 := by
  intro j
  induction j with
  | zero => exact fun _ _ _ _ h => absurd h (Nat.not_lt_zero _)
  | succ j ih =>
    intro R f g t h
    rw [wrF, wrF]
    rcases Nat.lt_or_ge t j with q | q
    · exact ih _ _ _ t q
    · have e : t = j := by omega
      subst e
      rw [wrF_out _ _ _ _ (Nat.le_refl _), wrF_out _ _ _ _ (Nat.le_refl _), va_up_self, va_up_self]
      exact ⟨rfl, by omega, by omega⟩
def is8 (a : Int32) : Bool := decide (0 ≤ a ∧ a ≤ nI 8)
theorem is8_of {a : Int32} (h : is8 a = true) : ∃ n, n ≤ 8 ∧ a = nI n := by
  have z := of_decide_eq_true h
  exact i32_of (by omega) z.1 z.2
def writeA (a b : Int32) : Int32 := if is8 a = true then (if isR (3 ^ a.toNatClampNeg) b = true then a else -2) else -1
def writeG (a b : Int32) (G : GG) : GG := if is8 a = true then (if isR (3 ^ a.toNatClampNeg) b = true then sGSi (sGTx G (wrF (gTx G) b.toNatClampNeg a.toNatClampNeg)) a.toNatClampNeg else G) else G
theorem pw3 {n : Nat} (h : n ≤ 8) : 3 ^ n ≤ 6561 := by
  have : 3 ^ n ≤ 3 ^ 8 := Nat.pow_le_pow_right (by omega) h
  exact this
/-! the answers of the questions -/
noncomputable def fitsA (V : VV) (s i j : Int32) : Int32 := if isS s = true then (if isT (vLn V) i j = true then nI (sfb V s.toNatClampNeg i.toNatClampNeg j.toNatClampNeg).toNat else -2) else -1
def isP (n : Nat) (i : Int32) : Bool := decide (0 ≤ i ∧ i ≤ nI n)
theorem isP_of {n : Nat} {i : Int32} (hn : n ≤ 8) (h : isP n i = true) : ∃ k, k ≤ n ∧ i = nI k := by
  have z := of_decide_eq_true h
  exact i32_of (by omega) z.1 z.2
noncomputable def endsA (V : VV) (s i : Int32) : Int32 := if isS s = true then (if isP (vLn V) i = true then bw (fun j => sfb V s.toNatClampNeg i.toNatClampNeg j) else -2) else -1
noncomputable def ruleFitsA (V : VV) (r i j : Int32) : Int32 := if isR (vCn V) r = true then (if isT (vLn V) i j = true then nI (rfb V r.toNatClampNeg i.toNatClampNeg j.toNatClampNeg).toNat else -2) else -1
noncomputable def strN (V : VV) (s : Nat) : Nat → Nat
  | 0 => 0
  | i + 1 => strN V s i + cnt (fun j => sfb V s i j) (vLn V + 1)
noncomputable def strA (V : VV) (s : Int32) : Int32 := if isS s = true then nI (strN V s.toNatClampNeg (vLn V + 1)) else -1
/-- the longest so far, and two more -/
def lg1 (f : Nat → Bool) (i m : Nat) : Nat → Nat
  | 0 => m
  | n + 1 => if i ≤ n ∧ f n = true ∧ lg1 f i m n < n - i + 2 then n - i + 2 else lg1 f i m n
theorem lg1_le (f : Nat → Bool) (i m : Nat) : ∀ n, n ≤ i → lg1 f i m n = m := by
  intro n
  induction n with
  | zero => exact fun _ => rfl
  | succ n ih => intro h; rw [lg1, if_neg (by omega), ih (by omega)]
theorem lg1_bd {f : Nat → Bool} {i m b : Nat} (hm : m ≤ b + 2) : ∀ n, n ≤ b + 1 → lg1 f i m n ≤ b + 2 := by
  intro n
  induction n with
  | zero => exact fun _ => hm
  | succ n ih =>
    intro h
    have z := ih (by omega)
    rw [lg1]
    split <;> omega
noncomputable def lgN (V : VV) (s : Nat) : Nat → Nat
  | 0 => 0
  | i + 1 => lg1 (fun j => sfb V s i j) i (lgN V s i) (vLn V + 1)
theorem lgN_bd (V : VV) (s : Nat) : ∀ i, lgN V s i ≤ vLn V + 2 := by
  intro i
  induction i with
  | zero => exact Nat.zero_le _
  | succ i ih => exact lg1_bd ih _ (Nat.le_refl _)
noncomputable def lgA (V : VV) (s : Int32) : Int32 := if isS s = true then nI (lgN V s.toNatClampNeg (vLn V + 1)) - nI 2 else -1
noncomputable def wayN (V : VV) (n i j : Nat) : Nat := cnt (fun r => decide (vLf V r = n) && rfb V r i j) (vCn V)
noncomputable def wayA (V : VV) (a i j : Int32) : Int32 := if isN a = true then (if isT (vLn V) i j = true then nI (wayN V a.toNatClampNeg i.toNatClampNeg j.toNatClampNeg) else -2) else -1
/-- the grammar with one letter more -/
def plusV (V : VV) (c0 : Nat) : VV := (vCn V, vLf V, vSz V, vSg V, va_up (vTx V) (vLn V) c0, vLn V + 1)
noncomputable def nxN (V : VV) : Nat → Nat
  | 0 => 0
  | k + 1 => if sfb (plusV V (7 - k)) 0 0 (vLn V + 1) = true then 7 - k else nxN V k
noncomputable def nxA (V : VV) : Int32 := if vLn V = 8 then -1 else nI (nxN V 3)
theorem nxN_s {V : VV} {i : Nat} (h : i < 3) : nxN V (3 - i) = if sfb (plusV V (i + 4 + 1)) 0 0 (vLn V + 1) = true then i + 4 + 1 else nxN V (3 - (i + 1)) := by
  rcases (show i = 0 ∨ i = 1 ∨ i = 2 by omega) with e | e | e <;> subst e <;> rfl
theorem nxN_le (V : VV) : ∀ k, nxN V k ≤ 7 := by
  intro k
  induction k with
  | zero => exact Nat.zero_le _
  | succ k ih => rw [nxN]; split <;> omega
def nextG (G : GG) : GG := if gSi G = 8 then G else sGTx G (va_up (gTx G) (gSi G) 5)
theorem okG_plus {G : GG} (hG : okG G) (h8 : gSi G ≠ 8) {c0 : Nat} (h1 : 5 ≤ c0) (h2 : c0 < 8) : okG (sGTx (sGSi G (gSi G + 1)) (va_up (gTx G) (gSi G) c0)) := by
  obtain ⟨g1, g2, g3, g4⟩ := hG
  refine ⟨g1, ?_, g3, ?_⟩
  · show gSi G + 1 ≤ 8
    omega
  · intro j hj
    have hj : j < gSi G + 1 := hj
    show 5 ≤ va_up (gTx G) (gSi G) c0 j ∧ va_up (gTx G) (gSi G) c0 j < 8
    by_cases e : j = gSi G
    · rw [e, va_up_self]; exact ⟨h1, h2⟩
    · rw [va_up_ne _ _ e]; exact g4 j (by omega)
theorem strN_bd {V : VV} {s b : Nat} (h : vLn V ≤ 8) : ∀ i, strN V s i ≤ i * 9 := by
  intro i
  induction i with
  | zero => exact Nat.zero_le _
  | succ i ih =>
    have z := cnt_le (fun j => sfb V s i j) (vLn V + 1)
    rw [strN]
    omega
theorem cnt_sf {B : Nat → Bool} {n k : Nat} (hk : k = cnt B n) (h : B n = false) : k = cnt B (n + 1) := by
  show k = cnt B n + (B n).toNat
  rw [h, hk]
  rfl
theorem cnt_s1 {B : Nat → Bool} {n k : Nat} (hk : k = cnt B n) (h : B n = true) : k + 1 = cnt B (n + 1) := by
  show k + 1 = cnt B n + (B n).toNat
  rw [h, hk]
  rfl
end
section
/-! the plain law of the reference: its table's fixpoint -/
noncomputable def cl (P : Prop) : Bool := @decide P (Classical.propDecidable P)
theorem cl_t {P : Prop} (h : P) : cl P = true := @decide_eq_true _ (Classical.propDecidable P) h
theorem cl_f {P : Prop} (h : ¬ P) : cl P = false := @decide_eq_false _ (Classical.propDecidable P) h
theorem cl_iff {P : Prop} : cl P = true ↔ P := @decide_eq_true_iff _ (Classical.propDecidable P)
theorem cl_eq {P : Prop} {b : Bool} (h : b = true ↔ P) : b = cl P := by
  cases hb : b
  · exact (cl_f (fun z => by rw [hb] at h; exact absurd (h.mpr z) Bool.false_ne_true)).symm
  · exact (cl_t (h.mp hb)).symm
def vM (M : MM) : VV := (mCn M, mLf M, fun r => dsz (mRt M r), fun r k => dsg (mRt M r) k, mTx M, mLn M)
def okM (M : MM) : Prop := mCn M ≤ 12 ∧ mLn M ≤ 8 ∧ (∀ r, r < mCn M → mLf M r < 5 ∧ okR (mRt M r) = true) ∧ ∀ j, j < mLn M → 5 ≤ mTx M j ∧ mTx M j < 8
def sgM (M : MM) (s i j : Nat) : Bool := if 5 ≤ s then decide (j = i + 1 ∧ i < 8 ∧ mTx M i = s) else mT M (81 * s + 9 * i + j)
def sgP (M : MM) (s p q : Nat) : Prop := p ≤ q ∧ q ≤ mLn M ∧ sgM M s p q = true
def preR (M : MM) (R i : Nat) : Nat → Nat → Prop
  | 0, q => q = i
  | k + 1, q => ∃ p, preR M R i k p ∧ sgP M (dsg R k) p q
def rowP (M : MM) (R i j : Nat) : Prop := preR M R i (dsz R) j
theorem dsg_1 {R : Nat} (h : dsz R = 1) : dsg R 0 = R % 9 - 1 := by unfold dsg; rw [if_pos h]
theorem dsg_20 {R : Nat} (h : dsz R = 2) : dsg R 0 = R / 9 % 9 - 1 := by unfold dsg; rw [if_neg (by omega), if_pos h]
theorem dsg_21 {R : Nat} (h : dsz R = 2) : dsg R 1 = R % 9 - 1 := by unfold dsg; rw [if_pos h]
theorem dsg_30 {R : Nat} (h : dsz R = 3) : dsg R 0 = R / 81 % 9 - 1 := by unfold dsg; rw [if_neg (by omega), if_neg (by omega)]
theorem dsg_31 {R : Nat} (h : dsz R = 3) : dsg R 1 = R / 9 % 9 - 1 := by unfold dsg; rw [if_neg (by omega), if_pos h]
theorem dsg_32 {R : Nat} (h : dsz R = 3) : dsg R 2 = R % 9 - 1 := by unfold dsg; rw [if_pos h]
theorem row_0 {M : MM} {i j : Nat} : rowP M 0 i j ↔ j = i := Iff.rfl
theorem row_1 {M : MM} {R i j : Nat} (h : dsz R = 1) (hij : i ≤ j) (hj : j ≤ mLn M) : rowP M R i j ↔ sgM M (R % 9 - 1) i j = true := by
  unfold rowP
  rw [h]
  constructor
  · rintro ⟨p, hp, h2⟩
    have e : p = i := hp
    subst e
    have z := h2.2.2
    rw [dsg_1 h] at z
    exact z
  · intro z
    refine ⟨i, rfl, hij, hj, ?_⟩
    rw [dsg_1 h]
    exact z
theorem row_2 {M : MM} {R i j : Nat} (h : dsz R = 2) (hj : j ≤ mLn M) : rowP M R i j ↔ ∃ m, i ≤ m ∧ m ≤ j ∧ sgM M (R / 9 % 9 - 1) i m = true ∧ sgM M (R % 9 - 1) m j = true := by
  unfold rowP
  rw [h]
  constructor
  · rintro ⟨m, ⟨p, hp, h1⟩, h2⟩
    have e : p = i := hp
    subst e
    have z1 := h1.2.2
    have z2 := h2.2.2
    rw [dsg_20 h] at z1
    rw [dsg_21 h] at z2
    exact ⟨m, h1.1, h2.1, z1, z2⟩
  · rintro ⟨m, h1, h2, z1, z2⟩
    refine ⟨m, ⟨i, rfl, h1, by omega, ?_⟩, h2, hj, ?_⟩
    · rw [dsg_20 h]; exact z1
    · rw [dsg_21 h]; exact z2
theorem row_3 {M : MM} {R i j : Nat} (h : dsz R = 3) (hR : R < 729) (hj : j ≤ mLn M) : rowP M R i j ↔ ∃ m, i ≤ m ∧ m ≤ j ∧ sgM M (R / 81 - 1) i m = true ∧ ∃ n, m ≤ n ∧ n ≤ j ∧ sgM M (R / 9 % 9 - 1) m n = true ∧ sgM M (R % 9 - 1) n j = true := by
  have e81 : R / 81 % 9 = R / 81 := by omega
  unfold rowP
  rw [h]
  constructor
  · rintro ⟨n, ⟨m, ⟨p, hp, h1⟩, h2⟩, h3⟩
    have e : p = i := hp
    subst e
    have z1 := h1.2.2
    have z2 := h2.2.2
    have z3 := h3.2.2
    rw [dsg_30 h, e81] at z1
    rw [dsg_31 h] at z2
    rw [dsg_32 h] at z3
    exact ⟨m, h1.1, Nat.le_trans h2.1 h3.1, z1, n, h2.1, h3.1, z2, z3⟩
  · rintro ⟨m, h1, h2, z1, n, h3, h4, z2, z3⟩
    refine ⟨n, ⟨m, ⟨i, rfl, h1, by omega, ?_⟩, h3, by omega, ?_⟩, h4, hj, ?_⟩
    · rw [dsg_30 h, e81]; exact z1
    · rw [dsg_31 h]; exact z2
    · rw [dsg_32 h]; exact z3
/-- how many stretches are found -/
def tcnt (T : Nat → Bool) : Nat := cnt (fun e => T e && decide (e / 9 % 9 ≤ e % 9)) 405
theorem tcnt_le (T : Nat → Bool) : tcnt T ≤ 225 := by
  have h : tcnt T ≤ cnt (fun e => decide (e / 9 % 9 ≤ e % 9)) 405 := cnt_mono (fun d _ q => by rw [Bool.and_eq_true] at q; exact q.2)
  have h2 : cnt (fun e => decide (e / 9 % 9 ≤ e % 9)) 405 = 225 := by decide +kernel
  omega
theorem tcnt_mono {T T' : Nat → Bool} (h : ∀ e, T e = true → T' e = true) : tcnt T ≤ tcnt T' := cnt_mono (fun d _ q => by rw [Bool.and_eq_true] at q ⊢; exact ⟨h d q.1, q.2⟩)
theorem tcnt_up {T : Nat → Bool} {n i j : Nat} (hn : n < 5) (hij : i ≤ j) (hj : j < 9) (h : T (81 * n + 9 * i + j) = false) : tcnt T + 1 ≤ tcnt (va_up T (81 * n + 9 * i + j) true) := by
  refine cnt_st (k := 81 * n + 9 * i + j) (by omega) (fun d _ q => ?_) (by rw [h]; rfl) ?_
  · rw [Bool.and_eq_true] at q ⊢
    exact ⟨up_mono d q.1, q.2⟩
  · rw [va_up_self, decide_eq_true (by omega)]
    rfl
def sndT (V : VV) (T : Nat → Bool) : Prop := ∀ n i j, n < 5 → i < 9 → j < 9 → T (81 * n + 9 * i + j) = true → i ≤ j ∧ j ≤ vLn V ∧ Fits V n i j
theorem sgP_T {M : MM} (h8 : mLn M ≤ 8) (hs : sndT (vM M) (mT M)) {s p q : Nat} (h : sgP M s p q) : sgT (vM M) (Fits (vM M)) s p q := by
  obtain ⟨h1, h2, h3⟩ := h
  unfold sgM at h3
  by_cases h5 : 5 ≤ s
  · rw [if_pos h5] at h3
    have z := of_decide_eq_true h3
    exact Or.inl ⟨h5, by show p < mLn M; omega, z.2.2, z.1⟩
  · rw [if_neg h5] at h3
    exact Or.inr ⟨by omega, (hs s p q (by omega) (by omega) (by omega) h3).2.2⟩
theorem preR_T {M : MM} (h8 : mLn M ≤ 8) (hs : sndT (vM M) (mT M)) {r i : Nat} : ∀ {k q : Nat}, preR M (mRt M r) i k q → preT (vM M) (Fits (vM M)) r i k q := by
  intro k
  induction k with
  | zero => exact fun h => h
  | succ k ih =>
    rintro q ⟨p, h1, h2⟩
    exact ⟨p, ih h1, sgP_T h8 hs h2⟩
/-- the table after some cells of one rule: r's stretches before (i, j) are done -/
def fillI (M : MM) (r i j fr : Nat) (T : Nat → Bool) : Prop := (∀ e, mT M e = true → T e = true) ∧ (sndT (vM M) (mT M) → sndT (vM M) T) ∧ ((fr = 0 ∧ T = mT M ∧ ∀ i' j', (i' < i ∨ (i' = i ∧ j' < j)) → i' ≤ j' → j' ≤ mLn M → rowP M (mRt M r) i' j' → mT M (81 * mLf M r + 9 * i' + j') = true) ∨ (fr = 1 ∧ tcnt (mT M) + 1 ≤ tcnt T))
theorem fillI_0 (M : MM) (r : Nat) : fillI M r 0 0 0 (mT M) := ⟨fun _ h => h, fun h => h, Or.inl ⟨rfl, rfl, fun i' j' h => by omega⟩⟩
theorem fillI_i {M : MM} {r i fr : Nat} {T : Nat → Bool} (h : fillI M r i 0 fr T) : fillI M r i i fr T := by
  refine ⟨h.1, h.2.1, ?_⟩
  rcases h.2.2 with ⟨h1, h2, h3⟩ | h1
  · exact Or.inl ⟨h1, h2, fun i' j' q q1 q2 q3 => h3 i' j' (by omega) q1 q2 q3⟩
  · exact Or.inr h1
theorem fillI_n {M : MM} {r i j fr : Nat} {T : Nat → Bool} (hj : mLn M < j) (h : fillI M r i j fr T) : fillI M r (i + 1) 0 fr T := by
  refine ⟨h.1, h.2.1, ?_⟩
  rcases h.2.2 with ⟨h1, h2, h3⟩ | h1
  · exact Or.inl ⟨h1, h2, fun i' j' q q1 q2 q3 => h3 i' j' (by omega) q1 q2 q3⟩
  · exact Or.inr h1
theorem fillI_s {M : MM} {r i j fr : Nat} {T : Nat → Bool} (h : fillI M r i j fr T) (hs : rowP (sMT M T) (mRt M r) i j → T (81 * mLf M r + 9 * i + j) = true) : fillI M r i (j + 1) fr T := by
  refine ⟨h.1, h.2.1, ?_⟩
  rcases h.2.2 with ⟨h1, h2, h3⟩ | h1
  · refine Or.inl ⟨h1, h2, fun i' j' q q1 q2 q3 => ?_⟩
    by_cases e : i' = i ∧ j' = j
    · obtain ⟨e1, e2⟩ := e
      subst e1
      subst e2
      rw [h2] at hs
      exact hs q3
    · exact h3 i' j' (by omega) q1 q2 q3
  · exact Or.inr h1
theorem fillI_t {M : MM} {r i j fr : Nat} {T : Nat → Bool} (hM : okM M) (hr : r < mCn M) (hij : i ≤ j) (hj : j ≤ mLn M) (h : fillI M r i j fr T) (hf : T (81 * mLf M r + 9 * i + j) = false) (hs : rowP (sMT M T) (mRt M r) i j) : fillI M r i (j + 1) 1 (va_up T (81 * mLf M r + 9 * i + j) true) := by
  have g2 := hM.2.1
  have g3 := (hM.2.2.1 r hr).1
  refine ⟨fun e q => up_mono e (h.1 e q), fun q => ?_, Or.inr ⟨rfl, ?_⟩⟩
  · have z := h.2.1 q
    intro n i' j' h1 h2 h3 h4
    by_cases e : 81 * n + 9 * i' + j' = 81 * mLf M r + 9 * i + j
    · have e1 : n = mLf M r := by omega
      have e2 : i' = i := by omega
      have e3 : j' = j := by omega
      subst e1
      subst e2
      subst e3
      refine ⟨hij, hj, ?_⟩
      exact Fits_closed (vM M) r hr i' (by show i' ≤ mLn M; omega) j' (preR_T (M := sMT M T) g2 z hs)
    · rw [va_up_ne _ _ e] at h4
      exact z n i' j' h1 h2 h3 h4
  · have y := tcnt_up g3 hij (by omega) hf
    have x := tcnt_mono h.1
    omega
/-- what fill leaves -/
def fillQ (M : MM) (r fr : Nat) (T : Nat → Bool) : Prop := (∀ e, mT M e = true → T e = true) ∧ (sndT (vM M) (mT M) → sndT (vM M) T) ∧ ((fr = 0 ∧ T = mT M ∧ ∀ i j, i ≤ j → j ≤ mLn M → rowP M (mRt M r) i j → mT M (81 * mLf M r + 9 * i + j) = true) ∨ (fr = 1 ∧ tcnt (mT M) + 1 ≤ tcnt T))
theorem fillI_e {M : MM} {r i fr : Nat} {T : Nat → Bool} (hi : mLn M < i) (h : fillI M r i 0 fr T) : fillQ M r fr T := by
  refine ⟨h.1, h.2.1, ?_⟩
  rcases h.2.2 with ⟨h1, h2, h3⟩ | h1
  · exact Or.inl ⟨h1, h2, fun i' j' q1 q2 q3 => h3 i' j' (by omega) q1 q2 q3⟩
  · exact Or.inr h1
/-- what fillAll has done before rule r -/
def allI (M : MM) (r fr : Nat) (T : Nat → Bool) : Prop := (∀ e, mT M e = true → T e = true) ∧ (sndT (vM M) (mT M) → sndT (vM M) T) ∧ ((fr = 0 ∧ T = mT M ∧ ∀ r', r' < r → ∀ i j, i ≤ j → j ≤ mLn M → rowP M (mRt M r') i j → mT M (81 * mLf M r' + 9 * i + j) = true) ∨ (fr = 1 ∧ tcnt (mT M) + 1 ≤ tcnt T))
theorem allI_0 (M : MM) : allI M 0 0 (mT M) := ⟨fun _ h => h, fun h => h, Or.inl ⟨rfl, rfl, fun r' h => absurd h (Nat.not_lt_zero _)⟩⟩
theorem allI_s {M : MM} {r fr f : Nat} {T T' : Nat → Bool} (h : allI M r fr T) (q : fillQ (sMT M T) r f T') : allI M (r + 1) (if f = 0 then fr else 1) T' := by
  obtain ⟨q1, q2, q3⟩ := q
  refine ⟨fun e z => q1 e (h.1 e z), fun z => q2 (h.2.1 z), ?_⟩
  rcases q3 with ⟨e1, e2, e3⟩ | ⟨e1, e2⟩
  · rw [if_pos e1]
    have e2 : T' = T := e2
    subst e2
    rcases h.2.2 with ⟨h1, h2, h3⟩ | h1
    · refine Or.inl ⟨h1, h2, fun r' hr' i j x1 x2 x3 => ?_⟩
      rcases Nat.lt_or_ge r' r with y | y
      · exact h3 r' y i j x1 x2 x3
      · have e : r' = r := by omega
        subst e
        subst h2
        exact e3 i j x1 x2 x3
    · exact Or.inr h1
  · rw [if_neg (by omega)]
    refine Or.inr ⟨rfl, ?_⟩
    have z := tcnt_mono h.1
    have e2 : tcnt T + 1 ≤ tcnt T' := e2
    omega
def clsM (M : MM) : Prop := ∀ r, r < mCn M → ∀ i j, i ≤ j → j ≤ mLn M → rowP M (mRt M r) i j → mT M (81 * mLf M r + 9 * i + j) = true
/-- the table says just what fits -/
def fullM (M : MM) : Prop := ∀ s i j, s < 8 → i ≤ j → j ≤ mLn M → sgM M s i j = sfb (vM M) s i j
theorem full_of {M : MM} (hM : okM M) (hs : sndT (vM M) (mT M)) (hc : clsM M) : fullM M := by
  have g2 := hM.2.1
  intro s i j h1 h2 h3
  refine sfb_eq ⟨fun h => sgP_T g2 hs ⟨h2, h3, h⟩, fun h => ?_⟩
  have sg : ∀ (T' : Nat → Nat → Nat → Prop), (∀ n p q, T' n p q → n < 5 → p ≤ mLn M → p ≤ q ∧ q ≤ mLn M ∧ mT M (81 * n + 9 * p + q) = true) → ∀ s p q, p ≤ mLn M → sgT (vM M) T' s p q → sgP M s p q := by
    intro T' hT s p q hp h
    rcases h with ⟨z1, z2, z3, z4⟩ | ⟨z1, z2⟩
    · have z2 : p < mLn M := z2
      refine ⟨by omega, by omega, ?_⟩
      unfold sgM
      rw [if_pos z1]
      exact decide_eq_true ⟨z4, by omega, z3⟩
    · obtain ⟨y1, y2, y3⟩ := hT s p q z2 z1 hp
      refine ⟨y1, y2, ?_⟩
      unfold sgM
      rw [if_neg (by omega)]
      exact y3
  have key : ∀ n p q, Fits (vM M) n p q → n < 5 → p ≤ mLn M → p ≤ q ∧ q ≤ mLn M ∧ mT M (81 * n + 9 * p + q) = true := by
    intro n p q hF
    refine hF (fun n p q => n < 5 → p ≤ mLn M → p ≤ q ∧ q ≤ mLn M ∧ mT M (81 * n + 9 * p + q) = true) ?_
    intro r hr i hi q hp hn _
    have hr : r < mCn M := hr
    have hi : i ≤ mLn M := hi
    have st : ∀ k q, preT (vM M) (fun n p q => n < 5 → p ≤ mLn M → p ≤ q ∧ q ≤ mLn M ∧ mT M (81 * n + 9 * p + q) = true) r i k q → preR M (mRt M r) i k q ∧ i ≤ q ∧ q ≤ mLn M := by
      intro k
      induction k with
      | zero => intro q h; have e : q = i := h; exact ⟨h, by omega, by omega⟩
      | succ k ih =>
        rintro q ⟨p, h1, h2⟩
        obtain ⟨y1, y2, y3⟩ := ih p h1
        have y4 := sg _ (fun _ _ _ t => t) _ p q y3 h2
        exact ⟨⟨p, y1, y4⟩, Nat.le_trans y2 y4.1, y4.2.1⟩
    obtain ⟨y1, y2, y3⟩ := st _ q hp
    exact ⟨y2, y3, hc r hr i q y2 y3 y1⟩
  exact (sg _ key s i j (by omega) h).2.2
theorem row_full {M : MM} (hM : okM M) (hf : fullM M) {r i : Nat} (hr : r < mCn M) (hi : i ≤ mLn M) : ∀ k, k ≤ dsz (mRt M r) → ∀ q, preR M (mRt M r) i k q ↔ preT (vM M) (Fits (vM M)) r i k q := by
  intro k
  induction k with
  | zero => exact fun _ q => Iff.rfl
  | succ k ih =>
    intro hk q
    have ih := ih (by omega)
    constructor
    · rintro ⟨p, h1, h2, h3, h4⟩
      refine ⟨p, (ih p).mp h1, ?_⟩
      rw [hf _ p q dsg_lt h2 h3] at h4
      exact sfb_iff.mp h4
    · rintro ⟨p, h1, h2⟩
      have y := preT_in (fun _ _ _ t => Fits_in t) (show i ≤ vLn (vM M) from hi) h1
      have y2 := sgT_in h2 y.2
      refine ⟨p, (ih p).mpr h1, y2.1, y2.2, ?_⟩
      rw [hf _ p q dsg_lt y2.1 y2.2]
      exact sfb_iff.mpr h2
theorem row_rfb {M : MM} (hM : okM M) (hf : fullM M) {r i j : Nat} (hr : r < mCn M) (hi : i ≤ mLn M) : cl (rowP M (mRt M r) i j) = rfb (vM M) r i j := by
  refine rfb_eq ?_
  rw [cl_iff]
  exact row_full hM hf hr hi _ (Nat.le_refl _) j
theorem snd_nil (V : VV) : sndT V (fun _ => false) := fun _ _ _ _ _ _ h => absurd h Bool.false_ne_true
end
section
/-! what the reference's changing methods do -/
theorem n45 {a : Int32} : a < nI 5 ↔ a ≤ nI 4 := by
  rw [Int32.lt_iff_toInt_lt, Int32.le_iff_toInt_le, nI_toInt (by omega), nI_toInt (by omega)]
  omega
def ruleM (a b : Int32) (M : MM) : MM := if isN a = true then (if isW b = true then (if mCn M = 12 then M else sMCn (sMRt (sMLf M (va_up (mLf M) (mCn M) a.toNatClampNeg)) (va_up (mRt M) (mCn M) b.toNatClampNeg)) (mCn M + 1)) else M) else M
def dropSM (M : MM) (r q : Nat) : MM := (shf (mLf M) r q 1, shf (mRt M) r q 1, mTx M, mT M, mCn M, mLn M)
def dropM (a : Int32) (M : MM) : MM := if isR (mCn M) a = true then sMCn (dropSM M a.toNatClampNeg (mCn M - 1)) (mCn M - 1) else M
def pushM (a : Int32) (M : MM) : MM := if isL a = true then (if mLn M = 8 then M else sMLn (sMTx M (va_up (mTx M) (mLn M) a.toNatClampNeg)) (mLn M + 1)) else M
def popM (M : MM) : MM := if mLn M = 0 then M else sMLn M (mLn M - 1)
def writeM (a b : Int32) (M : MM) : MM := if is8 a = true then (if isR (3 ^ a.toNatClampNeg) b = true then sMLn (sMTx M (wrF (mTx M) b.toNatClampNeg a.toNatClampNeg)) a.toNatClampNeg else M) else M
def nextM (M : MM) : MM := if mLn M = 8 then M else sMTx M (va_up (mTx M) (mLn M) 5)
def clrT (T : Nat → Bool) (n : Nat) : Nat → Bool := clrZ T n
theorem gp_arrZ {D : va_G} {h : Nat → Nat} {ca : Nat → ClassId} {M : MM} {T : Nat → Bool} {H : Heap} (hP : va_P D vwCl (wM h ca (sMT M T)) H) (hT : ∀ e, e < 405 → T e = false) : va_P D vwCl (wM h ca (sMT M (fun _ => false))) H := by
  intro k q hk
  match k, hk with
  | 0, hk => cases hk; exact hP 0 _ rfl
  | 1, hk => cases hk; exact hP 1 _ rfl
  | 2, hk => cases hk; exact hP 2 _ rfl
  | 3, hk => cases hk; exact hP 3 _ rfl
  | 4, hk =>
    cases hk
    have z := hP 4 _ rfl
    show H[h 4]? = some (vp_cell (ca 4) (405, .inl (zF (mT (sMT M (fun _ => false))))))
    have ez : vp_cell (ca 4) (405, .inl (zF (mT (sMT M T)))) = vp_cell (ca 4) (405, .inl (zF (mT (sMT M (fun _ => false))))) := gp_arr (fun j hj => by show nI (T j).toNat = nI false.toNat; rw [hT j hj])
    rw [← ez]
    exact z
  | k + 5, hk => simp at hk
theorem nar01 {f : Nat} (h : f ≤ 1) : narrow .boolean (.int (nI f)) = .int (nI f) := by
  rcases (show f = 0 ∨ f = 1 by omega) with e | e <;> subst e <;> decide +kernel
theorem fillI_1 {M : MM} {r i j fr : Nat} {T : Nat → Bool} (h : fillI M r i j fr T) : fr ≤ 1 := by
  rcases h.2.2 with ⟨e, _⟩ | ⟨e, _⟩ <;> omega
theorem fillQ_1 {M : MM} {r fr : Nat} {T : Nat → Bool} (h : fillQ M r fr T) : fr ≤ 1 := by
  rcases h.2.2 with ⟨e, _⟩ | ⟨e, _⟩ <;> omega
theorem allI_1 {M : MM} {r fr : Nat} {T : Nat → Bool} (h : allI M r fr T) : fr ≤ 1 := by
  rcases h.2.2 with ⟨e, _⟩ | ⟨e, _⟩ <;> omega
theorem cnt_z {B : Nat → Bool} {n : Nat} (h : ∀ d, d < n → B d = false) : cnt B n = 0 := by
  rcases Nat.eq_zero_or_pos (cnt B n) with z | z
  · exact z
  · obtain ⟨d, h1, h2⟩ := cnt_pos z
    rw [h d h1] at h2; cases h2
theorem sfb_lo {V : VV} {s i x : Nat} (hi : i ≤ vLn V) (hx : x < i) : sfb V s i x = false := sfb_f (fun z => by have y := sgT_in z hi; omega)
theorem okM_plus {M : MM} (hM : okM M) (h8 : mLn M ≠ 8) {c0 : Nat} {T : Nat → Bool} (h1 : 5 ≤ c0) (h2 : c0 < 8) : okM (sMLn (sMTx (sMT M T) (va_up (mTx M) (mLn M) c0)) (mLn M + 1)) := by
  obtain ⟨g1, g2, g3, g4⟩ := hM
  refine ⟨g1, ?_, g3, ?_⟩
  · show mLn M + 1 ≤ 8
    omega
  · intro j hj
    have hj : j < mLn M + 1 := hj
    show 5 ≤ va_up (mTx M) (mLn M) c0 j ∧ va_up (mTx M) (mLn M) c0 j < 8
    by_cases e : j = mLn M
    · rw [e, va_up_self]; exact ⟨h1, h2⟩
    · rw [va_up_ne _ _ e]; exact g4 j (by omega)
end
section
/-! walks of the engine of GllRecogniser -/
set_option maxHeartbeats 4000000 in
set_option maxRecDepth 100000 in
theorem mX_add (l : Launch) (D : va_G) (h : Nat → Nat) (ca : Nat → ClassId) (A : Nat → Prop) (G : GG) (E : EE) (a b c0 : Nat) (g1 : a < 48) (g2 : b < 45) (g3 : c0 < 9) : Met l yX0_add (ws_ yX0_add cX0_add 6 none) ({ frames := 0, cells := 0, slots := 0, locals := 0 }) (PX D h ca A G E [.int (nI a), .int (nI b), .int (nI c0)]) (va_Qv (fun u => u = (G, addF E ((a * 45 + b) * 9 + c0))) (BX D h ca) A) 0 0 A := by
  refine gx_entv (by decide) rfl (Nat.le_of_ble_eq_true rfl) ?_
  intro p e s m below meth c R Q hRf hRl X hret H locs ls hP hS hl
  have hx := X.1.1
  have hb := X.1.2.1
  generalize hav : ([.ref (h 0), .int (nI a), .int (nI b), .int (nI c0)] : List Value).toArray = av at X hret ⊢
  have hl : lv_has ls 6 [(0, .ref (h 0)), (1, .int (nI a)), (2, .int (nI b)), (3, .int (nI c0))] := hl
  obtain ⟨d, hd⟩ : ∃ d, d = (a * 45 + b) * 9 + c0 := ⟨_, rfl⟩
  refine lv_iload_n hx hb dX0_add_0 rfl (lv_at hl 1 rfl) ?_
  refine nr_bipush (v := 45) hx hb dX0_add_1 (by decide +kernel) ?_
  refine nr_imul hx hb dX0_add_3 ?_
  refine lv_iload_n hx hb dX0_add_4 rfl (lv_at hl 2 rfl) ?_
  refine nr_iadd hx hb dX0_add_5 ?_
  refine nr_bipush (v := 9) hx hb dX0_add_6 (by decide +kernel) ?_
  refine nr_imul hx hb dX0_add_8 ?_
  refine lv_iload_n hx hb dX0_add_9 rfl (lv_at hl 3 rfl) ?_
  refine nr_iadd hx hb dX0_add_10 ?_
  refine nr_top (y := (nI d)) (by rw [hd]) ?_
  refine lv_istore (lv' := [(4, .int (nI d)), (0, .ref (h 0)), (1, .int (nI a)), (2, .int (nI b)), (3, .int (nI c0))]) hx hb dX0_add_11 hl (by decide) rfl (fun ls hl => ?_)
  refine nr_iconst (v := 1) hx hb dX0_add_13 (by decide +kernel) ?_
  refine lv_iload hx hb dX0_add_14 (lv_at hl 0 rfl) ?_
  refine nr_bipush (v := 31) hx hb dX0_add_16 (by decide +kernel) ?_
  refine nr_and31 hx hb dX0_add_18 (by omega) ?_
  refine nr_shl1 hx hb dX0_add_19 (by omega) ?_
  refine lv_istore (lv' := [(5, .int (bw (bs (d % 32)))), (4, .int (nI d)), (0, .ref (h 0)), (1, .int (nI a)), (2, .int (nI b)), (3, .int (nI c0))]) hx hb dX0_add_20 hl (by decide) rfl (fun ls hl => ?_)
  refine lv_aload_n hx hb dX0_add_22 rfl (lv_at hl 2 rfl) ?_
  refine gx_f4 X hP dX0_add_23 ?_
  refine lv_iload hx hb dX0_add_26 (lv_at hl 1 rfl) ?_
  refine nr_iconst (v := 5) hx hb dX0_add_28 (by decide +kernel) ?_
  refine nr_shr5 hx hb dX0_add_29 (by omega) ?_
  refine gx_l5 X hP (by omega) dX0_add_30 ?_
  refine lv_iload hx hb dX0_add_31 (lv_at hl 0 rfl) ?_
  refine lv_iand hx hb dX0_add_33 ?_
  refine nr_if_ne_t (tgt := 89) hx hb dX0_add_34 (by decide) (by omega) (fun c1 => ?_) (fun c1 => ?_)
  · have c1 : eS E d = true := by rw [← c1]; congr 1; omega
    exact hret (G, E) _ _ _ _ dX0_add_89 hP hS (by rw [← hd, addF_t c1])
  · have c1 : eS E d = false := by rw [← c1]; congr 1; omega
    refine lv_aload_n hx hb dX0_add_37 rfl (lv_at hl 2 rfl) ?_
    refine gx_f4 X hP dX0_add_38 ?_
    refine lv_iload hx hb dX0_add_41 (lv_at hl 1 rfl) ?_
    refine nr_iconst (v := 5) hx hb dX0_add_43 (by decide +kernel) ?_
    refine nr_shr5 hx hb dX0_add_44 (by omega) ?_
    refine lv_aload_n hx hb dX0_add_45 rfl (lv_at hl 2 rfl) ?_
    refine gx_f4 X hP dX0_add_46 ?_
    refine lv_iload hx hb dX0_add_49 (lv_at hl 1 rfl) ?_
    refine nr_iconst (v := 5) hx hb dX0_add_51 (by decide +kernel) ?_
    refine nr_shr5 hx hb dX0_add_52 (by omega) ?_
    refine gx_l5 X hP (by omega) dX0_add_53 ?_
    refine lv_iload hx hb dX0_add_54 (lv_at hl 0 rfl) ?_
    refine nr_set hx hb dX0_add_56 ?_
    refine gx_s5 (S' := va_up (eS E) d true) X hP hS (by omega) (wd_upd _ d true) dX0_add_57 (fun H locs hP hS => ?_)
    refine lv_aload_n hx hb dX0_add_58 rfl (lv_at hl 2 rfl) ?_
    refine gx_f5 X hP dX0_add_59 ?_
    refine lv_iload hx hb dX0_add_62 (lv_at hl 1 rfl) ?_
    refine nr_iconst (v := 5) hx hb dX0_add_64 (by decide +kernel) ?_
    refine nr_shr5 hx hb dX0_add_65 (by omega) ?_
    refine lv_aload_n hx hb dX0_add_66 rfl (lv_at hl 2 rfl) ?_
    refine gx_f5 X hP dX0_add_67 ?_
    refine lv_iload hx hb dX0_add_70 (lv_at hl 1 rfl) ?_
    refine nr_iconst (v := 5) hx hb dX0_add_72 (by decide +kernel) ?_
    refine nr_shr5 hx hb dX0_add_73 (by omega) ?_
    refine gx_l6 X hP (by omega) dX0_add_74 ?_
    refine lv_iload hx hb dX0_add_75 (lv_at hl 0 rfl) ?_
    refine nr_set hx hb dX0_add_77 ?_
    refine gx_s6 (S' := va_up (eP (sES E (va_up (eS E) d true))) d true) X hP hS (by omega) (wd_upd _ d true) dX0_add_78 (fun H locs hP hS => ?_)
    refine lv_aload_n hx hb dX0_add_79 rfl (lv_at hl 2 rfl) ?_
    refine lv_dup hx hb dX0_add_80 rfl ?_
    refine gx_f11 X hP dX0_add_81 ?_
    refine nr_iconst (v := 1) hx hb dX0_add_84 (by decide +kernel) ?_
    refine nr_iadd hx hb dX0_add_85 ?_
    refine gx_p11 X hP hS dX0_add_86 (fun H locs hP hS => ?_)
    exact hret (G, sEN (sEP (sES E (va_up (eS E) d true)) (va_up (eP (sES E (va_up (eS E) d true))) d true)) ((eN (sEP (sES E (va_up (eS E) d true)) (va_up (eP (sES E (va_up (eS E) d true))) d true))) + 1)) _ _ _ _ dX0_add_89 hP hS (by rw [← hd, addF_f c1]; rfl)
set_option maxHeartbeats 4000000 in
set_option maxRecDepth 100000 in
theorem mX_call (l : Launch) (D : va_G) (h : Nat → Nat) (ca : Nat → ClassId) (A : Nat → Prop) (G : GG) (E : EE) (v : Nat) (hG : okG G) (g1 : v < 45) : Met l yX0_call (ws_ yX0_call cX0_call 3 none) ({ frames := 1, cells := 0, slots := 0, locals := 25 }) (PX D h ca A G E [.int (nI v)]) (va_Qv (fun u => u = (G, callF G E v)) (BX D h ca) A) 0 0 A := by
  refine gx_entv (by decide) rfl (Nat.le_of_ble_eq_true rfl) ?_
  intro p e s m below meth c R Q hRf hRl X hret H locs ls hP hS hl
  have hx := X.1.1
  have hb := X.1.2.1
  generalize hav : ([.ref (h 0), .int (nI v)] : List Value).toArray = av at X hret ⊢
  have hl : lv_has ls 3 [(0, .ref (h 0)), (1, .int (nI v))] := hl
  refine lv_aload_n hx hb dX0_call_0 rfl (lv_at hl 0 rfl) ?_
  refine gx_f8 X hP dX0_call_1 ?_
  refine lv_iload_n hx hb dX0_call_4 rfl (lv_at hl 1 rfl) ?_
  refine gx_l9 X hP (by omega) dX0_call_5 ?_
  have g2 := hG.1
  refine nr_if_eq_b (tgt := 10) hx hb dX0_call_6 (by decide) (fun c1 => ?_) (fun c1 => ?_)
  · obtain ⟨E0, hE0⟩ : ∃ E0, E0 = sEO E (va_up (eO E) v true) := ⟨_, rfl⟩
    refine lv_aload_n hx hb dX0_call_10 rfl (lv_at hl 0 rfl) ?_
    refine gx_f8 X hP dX0_call_11 ?_
    refine lv_iload_n hx hb dX0_call_14 rfl (lv_at hl 1 rfl) ?_
    refine nr_iconst (v := 1) hx hb dX0_call_15 (by decide +kernel) ?_
    refine gx_s9 X hP hS true (by omega) rfl dX0_call_16 (fun H locs hP hS => ?_)
    refine nr_iconst (v := 0) hx hb dX0_call_17 (by decide +kernel) ?_
    refine lv_istore_n (lv' := [(2, .int (nI 0)), (0, .ref (h 0)), (1, .int (nI v))]) hx hb dX0_call_18 rfl hl (by decide) rfl (fun ls hl => ?_)
    rw [← hE0] at hP
    have hP : va_P D vwCl (wX h ca G (itA E0 (callB G v) (callD v) 0)) H := hP
    have lp : ∀ r, r ≤ gCn G → ∀ (H : Heap) (locs : List Loc) (ls : Array Slot), va_P D vwCl (wX h ca G (itA E0 (callB G v) (callD v) r)) H → va_S A s.heap H locs → lv_has ls 3 [(0, .ref (h 0)), (1, .int (nI v)), (2, .int (nI r))] → W p l e R s m av below meth c H locs 0 0 Q (F0 m 19 ls []) := by
      refine gp_up (fun r hk_r ih => ?_)
      intro H locs ls hP hS hl
      refine lv_iload_n hx hb dX0_call_19 rfl (lv_at hl 2 rfl) ?_
      refine lv_aload_n hx hb dX0_call_20 rfl (lv_at hl 0 rfl) ?_
      refine gx_f9 X hP dX0_call_21 ?_
      refine nr_icmp_ge (tgt := 58) hx hb dX0_call_24 (by decide) (by omega) (by omega) (fun c2 => ?_) (fun c2 => ?_)
      · have hr : r = gCn G := by omega
        subst hr
        exact hret (G, itA E0 (callB G v) (callD v) (gCn G)) _ _ _ _ dX0_call_58 hP hS (by rw [callF, if_neg (by rw [c1]; exact Bool.false_ne_true), hE0])
      · have gl := (hG.2.2.1 r c2).1
        refine lv_aload_n hx hb dX0_call_27 rfl (lv_at hl 0 rfl) ?_
        refine gx_f0 X hP dX0_call_28 ?_
        refine lv_iload_n hx hb dX0_call_31 rfl (lv_at hl 2 rfl) ?_
        refine gx_l1 X hP (by omega) dX0_call_32 ?_
        refine lv_iload_n hx hb dX0_call_33 rfl (lv_at hl 1 rfl) ?_
        refine nr_bipush (v := 9) hx hb dX0_call_34 (by decide +kernel) ?_
        refine nr_idiv hx hb dX0_call_36 (by omega) (by omega) (by omega) ?_
        refine nr_icmp_ne (tgt := 52) hx hb dX0_call_37 (by decide) (by omega) (by omega) (fun c3 => ?_) (fun c3 => ?_)
        · have cb : callB G v r = false := decide_eq_false c3
          refine lv_iinc (v := (nI (r + 1))) (lv' := [(2, .int (nI (r + 1))), (0, .ref (h 0)), (1, .int (nI v))]) hx hb dX0_call_52 hl (k := 2) rfl (nI_i1 _) (by decide) rfl (fun ls hl => ?_)
          refine lv_goto (tgt := 19) hx hb dX0_call_55 (by decide) ?_
          rw [← itA_f cb] at hP
          exact ih c2 _ _ _ hP hS (lv_sub hl [1, 2, 0] rfl)
        · have cb : callB G v r = true := decide_eq_true c3
          refine lv_aload_n hx hb dX0_call_40 rfl (lv_at hl 0 rfl) ?_
          refine nr_iconst (v := 4) hx hb dX0_call_41 (by decide +kernel) ?_
          refine lv_iload_n hx hb dX0_call_42 rfl (lv_at hl 2 rfl) ?_
          refine nr_imul hx hb dX0_call_43 ?_
          refine lv_iload_n hx hb dX0_call_44 rfl (lv_at hl 1 rfl) ?_
          refine lv_iload_n hx hb dX0_call_45 rfl (lv_at hl 1 rfl) ?_
          refine nr_bipush (v := 9) hx hb dX0_call_46 (by decide +kernel) ?_
          refine nr_irem hx hb dX0_call_48 (by omega) (by omega) (by omega) ?_
          refine gx_callv X (rest := []) (As := [.int (nI (4 * r)), .int (nI v), .int (nI (v % 9))]) (n := 3) (mX_add l D h ca A G (itA E0 (callB G v) (callD v) r) (4 * r) v (v % 9) (by omega) (by omega) (by omega)) (lw_V q130 q132 qs4 q23 q133) (by decide +kernel) ⟨by omega, by omega⟩ hP hS rfl hl.1 rfl (Nat.le_of_ble_eq_true rfl) dX0_call_49 (fun u H locs hu hP hS => ?_)
          subst hu
          have hP : va_P D vwCl (wX h ca G (addF (itA E0 (callB G v) (callD v) r) (callD v r))) H := hP
          rw [← itA_t cb] at hP
          refine lv_iinc (v := (nI (r + 1))) (lv' := [(2, .int (nI (r + 1))), (0, .ref (h 0)), (1, .int (nI v))]) hx hb dX0_call_52 hl (k := 2) rfl (nI_i1 _) (by decide) rfl (fun ls hl => ?_)
          refine lv_goto (tgt := 19) hx hb dX0_call_55 (by decide) ?_
          exact ih c2 _ _ _ hP hS (lv_sub hl [1, 2, 0] rfl)
    exact lp 0 (Nat.zero_le _) _ _ _ hP hS (lv_sub hl [1, 2, 0] rfl)
  · exact hret (G, E) _ _ _ _ dX0_call_9 hP hS (by rw [callF, if_pos c1])
set_option maxHeartbeats 4000000 in
set_option maxRecDepth 100000 in
theorem mX_finish (l : Launch) (D : va_G) (h : Nat → Nat) (ca : Nat → ClassId) (A : Nat → Prop) (G : GG) (E : EE) (v c0 : Nat) (g1 : v < 45) (g2 : c0 < 9) : Met l yX0_finish (ws_ yX0_finish cX0_finish 4 none) ({ frames := 1, cells := 0, slots := 0, locals := 25 }) (PX D h ca A G E [.int (nI v), .int (nI c0)]) (va_Qv (fun u => u = (G, finF E v c0)) (BX D h ca) A) 0 0 A := by
  refine gx_entv (by decide) rfl (Nat.le_of_ble_eq_true rfl) ?_
  intro p e s m below meth c R Q hRf hRl X hret H locs ls hP hS hl
  have hx := X.1.1
  have hb := X.1.2.1
  generalize hav : ([.ref (h 0), .int (nI v), .int (nI c0)] : List Value).toArray = av at X hret ⊢
  have hl : lv_has ls 4 [(0, .ref (h 0)), (1, .int (nI v)), (2, .int (nI c0))] := hl
  refine lv_aload_n hx hb dX0_finish_0 rfl (lv_at hl 0 rfl) ?_
  refine gx_f7 X hP dX0_finish_1 ?_
  refine lv_iload_n hx hb dX0_finish_4 rfl (lv_at hl 1 rfl) ?_
  refine gx_l8 X hP (by omega) dX0_finish_5 ?_
  refine lv_iload_n hx hb dX0_finish_6 rfl (lv_at hl 2 rfl) ?_
  refine lv_ishr hx hb dX0_finish_7 ?_
  refine nr_iconst (v := 1) hx hb dX0_finish_8 (by decide +kernel) ?_
  refine nr_shr (B := fun k => eE E (32 * v + k)) (k0 := c0) hx hb dX0_finish_9 (by omega) ?_
  refine nr_iconst (v := 1) hx hb dX0_finish_10 (by decide +kernel) ?_
  refine nr_ne_b (tgt := 15) hx hb dX0_finish_11 (by decide) (fun c1 => ?_) (fun c1 => ?_)
  · obtain ⟨E0, hE0⟩ : ∃ E0, E0 = sEE E (va_up (eE E) (32 * v + c0) true) := ⟨_, rfl⟩
    refine lv_aload_n hx hb dX0_finish_15 rfl (lv_at hl 0 rfl) ?_
    refine gx_f7 X hP dX0_finish_16 ?_
    refine lv_iload_n hx hb dX0_finish_19 rfl (lv_at hl 1 rfl) ?_
    refine lv_aload_n hx hb dX0_finish_20 rfl (lv_at hl 0 rfl) ?_
    refine gx_f7 X hP dX0_finish_21 ?_
    refine lv_iload_n hx hb dX0_finish_24 rfl (lv_at hl 1 rfl) ?_
    refine gx_l8 X hP (by omega) dX0_finish_25 ?_
    refine nr_iconst (v := 1) hx hb dX0_finish_26 (by decide +kernel) ?_
    refine lv_iload_n hx hb dX0_finish_27 rfl (lv_at hl 2 rfl) ?_
    refine nr_shl1 hx hb dX0_finish_28 (by omega) ?_
    refine nr_set hx hb dX0_finish_29 ?_
    refine gx_s8 (S' := va_up (eE E) (32 * v + c0) true) X hP hS (by omega) (wd_up _ v c0 (by omega) true) dX0_finish_30 (fun H locs hP hS => ?_)
    refine nr_iconst (v := 0) hx hb dX0_finish_31 (by decide +kernel) ?_
    refine lv_istore_n (lv' := [(3, .int (nI 0)), (0, .ref (h 0)), (1, .int (nI v)), (2, .int (nI c0))]) hx hb dX0_finish_32 rfl hl (by decide) rfl (fun ls hl => ?_)
    rw [← hE0] at hP
    have hC : ∀ n, eC (itA E0 (finB E v) (finD c0) n) = eC E := fun n => by rw [itA_C, hE0]; rfl
    have hP : va_P D vwCl (wX h ca G (itA E0 (finB E v) (finD c0) 0)) H := hP
    have lp : ∀ k0, k0 ≤ 2160 → ∀ (H : Heap) (locs : List Loc) (ls : Array Slot), va_P D vwCl (wX h ca G (itA E0 (finB E v) (finD c0) k0)) H → va_S A s.heap H locs → lv_has ls 4 [(0, .ref (h 0)), (1, .int (nI v)), (2, .int (nI c0)), (3, .int (nI k0))] → W p l e R s m av below meth c H locs 0 0 Q (F0 m 33 ls []) := by
      refine gp_up (fun k0 hk_k0 ih => ?_)
      intro H locs ls hP hS hl
      refine lv_iload_n hx hb dX0_finish_33 rfl (lv_at hl 3 rfl) ?_
      refine nr_sipush (v := 2160) hx hb dX0_finish_34 (by decide +kernel) ?_
      refine nr_icmp_ge (tgt := 83) hx hb dX0_finish_37 (by decide) (by omega) (by omega) (fun c2 => ?_) (fun c2 => ?_)
      · have hr : k0 = 2160 := by omega
        subst hr
        exact hret (G, itA E0 (finB E v) (finD c0) 2160) _ _ _ _ dX0_finish_83 hP hS (by rw [finF, if_neg (by rw [c1]; exact Bool.false_ne_true), hE0])
      · refine lv_aload_n hx hb dX0_finish_40 rfl (lv_at hl 0 rfl) ?_
        refine gx_f6 X hP dX0_finish_41 ?_
        refine nr_bipush (v := 68) hx hb dX0_finish_44 (by decide +kernel) ?_
        refine lv_iload_n hx hb dX0_finish_46 rfl (lv_at hl 1 rfl) ?_
        refine nr_imul hx hb dX0_finish_47 ?_
        refine lv_iload_n hx hb dX0_finish_48 rfl (lv_at hl 3 rfl) ?_
        refine nr_iconst (v := 5) hx hb dX0_finish_49 (by decide +kernel) ?_
        refine nr_shr5 hx hb dX0_finish_50 (by omega) ?_
        refine nr_iadd hx hb dX0_finish_51 ?_
        refine gx_l7 X hP (by omega) dX0_finish_52 ?_
        refine lv_iload_n hx hb dX0_finish_53 rfl (lv_at hl 3 rfl) ?_
        refine nr_bipush (v := 31) hx hb dX0_finish_54 (by decide +kernel) ?_
        refine nr_and31 hx hb dX0_finish_56 (by omega) ?_
        refine lv_iushr hx hb dX0_finish_57 rfl ?_
        refine nr_iconst (v := 1) hx hb dX0_finish_58 (by decide +kernel) ?_
        refine nr_ush (B := fun k => eC (itA E0 (finB E v) (finD c0) k0) (32 * ((68 * v) + (k0 / 32)) + k)) (k0 := k0 % 32) hx hb dX0_finish_59 (by omega) ?_
        refine nr_iconst (v := 1) hx hb dX0_finish_60 (by decide +kernel) ?_
        refine nr_ne_b (tgt := 77) hx hb dX0_finish_61 (by decide) (fun c3 => ?_) (fun c3 => ?_)
        · have cb : finB E v k0 = false := by rw [← c3, hC]; show eC E _ = eC E _; congr 1; omega
          refine lv_iinc (v := (nI (k0 + 1))) (lv' := [(3, .int (nI (k0 + 1))), (0, .ref (h 0)), (1, .int (nI v)), (2, .int (nI c0))]) hx hb dX0_finish_77 hl (k := 3) rfl (nI_i1 _) (by decide) rfl (fun ls hl => ?_)
          refine lv_goto (tgt := 33) hx hb dX0_finish_80 (by decide) ?_
          rw [← itA_f cb] at hP
          exact ih c2 _ _ _ hP hS (lv_sub hl [1, 2, 3, 0] rfl)
        · have cb : finB E v k0 = true := by rw [← c3, hC]; show eC E _ = eC E _; congr 1; omega
          refine lv_aload_n hx hb dX0_finish_64 rfl (lv_at hl 0 rfl) ?_
          refine lv_iload_n hx hb dX0_finish_65 rfl (lv_at hl 3 rfl) ?_
          refine nr_bipush (v := 45) hx hb dX0_finish_66 (by decide +kernel) ?_
          refine nr_idiv hx hb dX0_finish_68 (by omega) (by omega) (by omega) ?_
          refine lv_iload_n hx hb dX0_finish_69 rfl (lv_at hl 3 rfl) ?_
          refine nr_bipush (v := 45) hx hb dX0_finish_70 (by decide +kernel) ?_
          refine nr_irem hx hb dX0_finish_72 (by omega) (by omega) (by omega) ?_
          refine lv_iload_n hx hb dX0_finish_73 rfl (lv_at hl 2 rfl) ?_
          refine gx_callv X (rest := []) (As := [.int (nI (k0 / 45)), .int (nI (k0 % 45)), .int (nI c0)]) (n := 3) (mX_add l D h ca A G (itA E0 (finB E v) (finD c0) k0) (k0 / 45) (k0 % 45) c0 (by omega) (by omega) (by omega)) (lw_V q130 q132 qs4 q23 q133) (by decide +kernel) ⟨by omega, by omega⟩ hP hS rfl hl.1 rfl (Nat.le_of_ble_eq_true rfl) dX0_finish_74 (fun u H locs hu hP hS => ?_)
          subst hu
          have hP : va_P D vwCl (wX h ca G (addF (itA E0 (finB E v) (finD c0) k0) (finD c0 k0))) H := hP
          rw [← itA_t cb] at hP
          refine lv_iinc (v := (nI (k0 + 1))) (lv' := [(3, .int (nI (k0 + 1))), (0, .ref (h 0)), (1, .int (nI v)), (2, .int (nI c0))]) hx hb dX0_finish_77 hl (k := 3) rfl (nI_i1 _) (by decide) rfl (fun ls hl => ?_)
          refine lv_goto (tgt := 33) hx hb dX0_finish_80 (by decide) ?_
          exact ih c2 _ _ _ hP hS (lv_sub hl [1, 2, 3, 0] rfl)
    exact lp 0 (Nat.zero_le _) _ _ _ hP hS (lv_sub hl [1, 2, 3, 0] rfl)
  · exact hret (G, E) _ _ _ _ dX0_finish_14 hP hS (by rw [finF, if_pos c1])
set_option maxHeartbeats 4000000 in
set_option maxRecDepth 100000 in
theorem mX_attend (l : Launch) (D : va_G) (h : Nat → Nat) (ca : Nat → ClassId) (A : Nat → Prop) (G : GG) (E : EE) (v a b : Nat) (hG : okG G) (g1 : v < 45) (g2 : a < 48) (g3 : b < 45) : Met l yX0_attend (ws_ yX0_attend cX0_attend 8 none) ({ frames := 2, cells := 0, slots := 0, locals := 47 }) (PX D h ca A G E [.int (nI v), .int (nI a), .int (nI b)]) (va_Qv (fun u => u = (G, attF G E v a b)) (BX D h ca) A) 0 0 A := by
  refine gx_entv (by decide) rfl (Nat.le_of_ble_eq_true rfl) ?_
  intro p e s m below meth c R Q hRf hRl X hret H locs ls hP hS hl
  have hx := X.1.1
  have hb := X.1.2.1
  generalize hav : ([.ref (h 0), .int (nI v), .int (nI a), .int (nI b)] : List Value).toArray = av at X hret ⊢
  have hl : lv_has ls 8 [(0, .ref (h 0)), (1, .int (nI v)), (2, .int (nI a)), (3, .int (nI b))] := hl
  have g4 := hG.1
  obtain ⟨k0, hk⟩ : ∃ k0, k0 = a * 45 + b := ⟨_, rfl⟩
  refine lv_iload_n hx hb dX0_attend_0 rfl (lv_at hl 2 rfl) ?_
  refine nr_bipush (v := 45) hx hb dX0_attend_1 (by decide +kernel) ?_
  refine nr_imul hx hb dX0_attend_3 ?_
  refine lv_iload_n hx hb dX0_attend_4 rfl (lv_at hl 3 rfl) ?_
  refine nr_iadd hx hb dX0_attend_5 ?_
  refine nr_top (y := (nI k0)) (by rw [hk]) ?_
  refine lv_istore (lv' := [(4, .int (nI k0)), (0, .ref (h 0)), (1, .int (nI v)), (2, .int (nI a)), (3, .int (nI b))]) hx hb dX0_attend_6 hl (by decide) rfl (fun ls hl => ?_)
  refine nr_bipush (v := 68) hx hb dX0_attend_8 (by decide +kernel) ?_
  refine lv_iload_n hx hb dX0_attend_10 rfl (lv_at hl 2 rfl) ?_
  refine nr_imul hx hb dX0_attend_11 ?_
  refine lv_iload hx hb dX0_attend_12 (lv_at hl 0 rfl) ?_
  refine nr_iconst (v := 5) hx hb dX0_attend_14 (by decide +kernel) ?_
  refine nr_shr5 hx hb dX0_attend_15 (by omega) ?_
  refine nr_iadd hx hb dX0_attend_16 ?_
  refine lv_istore (lv' := [(5, .int (nI ((68 * v) + (k0 / 32)))), (4, .int (nI k0)), (0, .ref (h 0)), (1, .int (nI v)), (2, .int (nI a)), (3, .int (nI b))]) hx hb dX0_attend_17 hl (by decide) rfl (fun ls hl => ?_)
  refine nr_iconst (v := 1) hx hb dX0_attend_19 (by decide +kernel) ?_
  refine lv_iload hx hb dX0_attend_20 (lv_at hl 1 rfl) ?_
  refine nr_bipush (v := 31) hx hb dX0_attend_22 (by decide +kernel) ?_
  refine nr_and31 hx hb dX0_attend_24 (by omega) ?_
  refine nr_shl1 hx hb dX0_attend_25 (by omega) ?_
  refine lv_istore (lv' := [(6, .int (bw (bs (k0 % 32)))), (5, .int (nI ((68 * v) + (k0 / 32)))), (4, .int (nI k0)), (0, .ref (h 0)), (1, .int (nI v)), (2, .int (nI a)), (3, .int (nI b))]) hx hb dX0_attend_26 hl (by decide) rfl (fun ls hl => ?_)
  refine lv_aload_n hx hb dX0_attend_28 rfl (lv_at hl 3 rfl) ?_
  refine gx_f6 X hP dX0_attend_29 ?_
  refine lv_iload hx hb dX0_attend_32 (lv_at hl 1 rfl) ?_
  refine gx_l7 X hP (by omega) dX0_attend_34 ?_
  refine lv_iload hx hb dX0_attend_35 (lv_at hl 0 rfl) ?_
  refine lv_iand hx hb dX0_attend_37 ?_
  refine nr_if_eq_t (tgt := 42) hx hb dX0_attend_38 (by decide) (by omega) (fun c1 => ?_) (fun c1 => ?_)
  · have c1 : eC E (2176 * v + k0) = false := by rw [← c1]; congr 1; omega
    obtain ⟨E0, hE0⟩ : ∃ E0, E0 = sEC E (va_up (eC E) (2176 * v + k0) true) := ⟨_, rfl⟩
    refine lv_aload_n hx hb dX0_attend_42 rfl (lv_at hl 3 rfl) ?_
    refine gx_f6 X hP dX0_attend_43 ?_
    refine lv_iload hx hb dX0_attend_46 (lv_at hl 1 rfl) ?_
    refine lv_aload_n hx hb dX0_attend_48 rfl (lv_at hl 3 rfl) ?_
    refine gx_f6 X hP dX0_attend_49 ?_
    refine lv_iload hx hb dX0_attend_52 (lv_at hl 1 rfl) ?_
    refine gx_l7 X hP (by omega) dX0_attend_54 ?_
    refine lv_iload hx hb dX0_attend_55 (lv_at hl 0 rfl) ?_
    refine nr_set hx hb dX0_attend_57 ?_
    refine gx_s7 (S' := va_up (eC E) (2176 * v + k0) true) X hP hS (by omega) (wd_upc _ v k0 true) dX0_attend_58 (fun H locs hP hS => ?_)
    refine nr_iconst (v := 0) hx hb dX0_attend_59 (by decide +kernel) ?_
    refine lv_istore (lv' := [(7, .int (nI 0)), (6, .int (bw (bs (k0 % 32)))), (5, .int (nI ((68 * v) + (k0 / 32)))), (4, .int (nI k0)), (0, .ref (h 0)), (1, .int (nI v)), (2, .int (nI a)), (3, .int (nI b))]) hx hb dX0_attend_60 hl (by decide) rfl (fun ls hl => ?_)
    rw [← hE0] at hP
    have hE : ∀ n, eE (itA E0 (attB E v) (attD a b) n) = eE E := fun n => by rw [itA_E, hE0]; rfl
    have hP : va_P D vwCl (wX h ca G (itA E0 (attB E v) (attD a b) 0)) H := hP
    have lp : ∀ q, q ≤ 9 → ∀ (H : Heap) (locs : List Loc) (ls : Array Slot), va_P D vwCl (wX h ca G (itA E0 (attB E v) (attD a b) q)) H → va_S A s.heap H locs → lv_has ls 8 [(0, .ref (h 0)), (1, .int (nI v)), (2, .int (nI a)), (3, .int (nI b)), (7, .int (nI q))] → W p l e R s m av below meth c H locs 0 0 Q (F0 m 62 ls []) := by
      refine gp_up (fun q hk_q ih => ?_)
      intro H locs ls hP hS hl
      refine lv_iload hx hb dX0_attend_62 (lv_at hl 4 rfl) ?_
      refine nr_bipush (v := 9) hx hb dX0_attend_64 (by decide +kernel) ?_
      refine nr_icmp_ge (tgt := 98) hx hb dX0_attend_66 (by decide) (by omega) (by omega) (fun c2 => ?_) (fun c2 => ?_)
      · have hr : q = 9 := by omega
        subst hr
        refine lv_aload_n hx hb dX0_attend_98 rfl (lv_at hl 0 rfl) ?_
        refine lv_iload_n hx hb dX0_attend_99 rfl (lv_at hl 1 rfl) ?_
        refine gx_callv X (rest := []) (As := [.int (nI v)]) (n := 1) (mX_call l D h ca A G (itA E0 (attB E v) (attD a b) 9) v hG g1) (lw_V q126 q128 qs3 q23 q129) (by decide +kernel) ⟨by omega, by omega⟩ hP hS rfl hl.1 rfl (Nat.le_of_ble_eq_true rfl) dX0_attend_100 (fun u H locs hu hP hS => ?_)
        subst hu
        exact hret (G, callF G (itA E0 (attB E v) (attD a b) 9) v) _ _ _ _ dX0_attend_103 hP hS (by rw [attF, ← hk, if_neg (by rw [c1]; exact Bool.false_ne_true), hE0])
      · refine lv_aload_n hx hb dX0_attend_69 rfl (lv_at hl 0 rfl) ?_
        refine gx_f7 X hP dX0_attend_70 ?_
        refine lv_iload_n hx hb dX0_attend_73 rfl (lv_at hl 1 rfl) ?_
        refine gx_l8 X hP (by omega) dX0_attend_74 ?_
        refine lv_iload hx hb dX0_attend_75 (lv_at hl 4 rfl) ?_
        refine lv_ishr hx hb dX0_attend_77 ?_
        refine nr_iconst (v := 1) hx hb dX0_attend_78 (by decide +kernel) ?_
        refine nr_shr (B := fun k => eE (itA E0 (attB E v) (attD a b) q) (32 * v + k)) (k0 := q) hx hb dX0_attend_79 (by omega) ?_
        refine nr_iconst (v := 1) hx hb dX0_attend_80 (by decide +kernel) ?_
        refine nr_ne_b (tgt := 92) hx hb dX0_attend_81 (by decide) (fun c3 => ?_) (fun c3 => ?_)
        · have cb : attB E v q = false := by rw [← c3, hE]; rfl
          refine lv_iinc (v := (nI (q + 1))) (lv' := [(7, .int (nI (q + 1))), (0, .ref (h 0)), (1, .int (nI v)), (2, .int (nI a)), (3, .int (nI b))]) hx hb dX0_attend_92 hl (k := 4) rfl (nI_i1 _) (by decide) rfl (fun ls hl => ?_)
          refine lv_goto (tgt := 62) hx hb dX0_attend_95 (by decide) ?_
          rw [← itA_f cb] at hP
          exact ih c2 _ _ _ hP hS (lv_sub hl [1, 2, 3, 4, 0] rfl)
        · have cb : attB E v q = true := by rw [← c3, hE]; rfl
          refine lv_aload_n hx hb dX0_attend_84 rfl (lv_at hl 0 rfl) ?_
          refine lv_iload_n hx hb dX0_attend_85 rfl (lv_at hl 2 rfl) ?_
          refine lv_iload_n hx hb dX0_attend_86 rfl (lv_at hl 3 rfl) ?_
          refine lv_iload hx hb dX0_attend_87 (lv_at hl 4 rfl) ?_
          refine gx_callv X (rest := []) (As := [.int (nI a), .int (nI b), .int (nI q)]) (n := 3) (mX_add l D h ca A G (itA E0 (attB E v) (attD a b) q) a b q (by omega) (by omega) (by omega)) (lw_V q130 q132 qs4 q23 q133) (by decide +kernel) ⟨by omega, by omega⟩ hP hS rfl hl.1 rfl (Nat.le_of_ble_eq_true rfl) dX0_attend_89 (fun u H locs hu hP hS => ?_)
          subst hu
          have hP : va_P D vwCl (wX h ca G (addF (itA E0 (attB E v) (attD a b) q) (attD a b q))) H := hP
          rw [← itA_t cb] at hP
          refine lv_iinc (v := (nI (q + 1))) (lv' := [(7, .int (nI (q + 1))), (0, .ref (h 0)), (1, .int (nI v)), (2, .int (nI a)), (3, .int (nI b))]) hx hb dX0_attend_92 hl (k := 4) rfl (nI_i1 _) (by decide) rfl (fun ls hl => ?_)
          refine lv_goto (tgt := 62) hx hb dX0_attend_95 (by decide) ?_
          exact ih c2 _ _ _ hP hS (lv_sub hl [1, 2, 3, 4, 0] rfl)
    exact lp 0 (Nat.zero_le _) _ _ _ hP hS (lv_sub hl [4, 5, 6, 7, 0] rfl)
  · have c1 : eC E (2176 * v + k0) = true := by rw [← c1]; congr 1; omega
    exact hret (G, E) _ _ _ _ dX0_attend_41 hP hS (by rw [attF, ← hk, if_pos c1])
set_option maxHeartbeats 4000000 in
set_option maxRecDepth 100000 in
theorem mX_handle (l : Launch) (D : va_G) (h : Nat → Nat) (ca : Nat → ClassId) (A : Nat → Prop) (G : GG) (E : EE) (a b c0 : Nat) (hG : okG G) (g7 : a / 4 < gCn G) (g8 : a % 4 ≤ gSz G (a / 4)) (g2 : b < 45) (g3 : c0 < 9) : Met l yX0_handle (ws_ yX0_handle cX0_handle 7 none) ({ frames := 3, cells := 0, slots := 0, locals := 74 }) (PX D h ca A G E [.int (nI a), .int (nI b), .int (nI c0)]) (va_Qv (fun u => u = (G, handF G E a b c0)) (BX D h ca) A) 0 0 A := by
  refine gx_entv (by decide) rfl (Nat.le_of_ble_eq_true rfl) ?_
  intro p e s m below meth c R Q hRf hRl X hret H locs ls hP hS hl
  have hx := X.1.1
  have hb := X.1.2.1
  generalize hav : ([.ref (h 0), .int (nI a), .int (nI b), .int (nI c0)] : List Value).toArray = av at X hret ⊢
  have hl : lv_has ls 7 [(0, .ref (h 0)), (1, .int (nI a)), (2, .int (nI b)), (3, .int (nI c0))] := hl
  have g4 := hG.1
  have g5 := hG.2.1
  have g6 := (hG.2.2.1 _ g7).2.1
  refine lv_iload_n hx hb dX0_handle_0 rfl (lv_at hl 1 rfl) ?_
  refine nr_iconst (v := 2) hx hb dX0_handle_1 (by decide +kernel) ?_
  refine nr_shr2 hx hb dX0_handle_2 (by omega) ?_
  refine lv_istore (lv' := [(4, .int (nI (a / 4))), (0, .ref (h 0)), (1, .int (nI a)), (2, .int (nI b)), (3, .int (nI c0))]) hx hb dX0_handle_3 hl (by decide) rfl (fun ls hl => ?_)
  refine lv_iload_n hx hb dX0_handle_5 rfl (lv_at hl 2 rfl) ?_
  refine nr_iconst (v := 3) hx hb dX0_handle_6 (by decide +kernel) ?_
  refine nr_and3 hx hb dX0_handle_7 (by omega) ?_
  refine lv_istore (lv' := [(5, .int (nI (a % 4))), (4, .int (nI (a / 4))), (0, .ref (h 0)), (1, .int (nI a)), (2, .int (nI b)), (3, .int (nI c0))]) hx hb dX0_handle_8 hl (by decide) rfl (fun ls hl => ?_)
  refine lv_iload hx hb dX0_handle_10 (lv_at hl 0 rfl) ?_
  refine lv_aload_n hx hb dX0_handle_12 rfl (lv_at hl 2 rfl) ?_
  refine gx_f2 X hP dX0_handle_13 ?_
  refine lv_iload hx hb dX0_handle_16 (lv_at hl 1 rfl) ?_
  refine gx_l3 X hP (by omega) dX0_handle_18 ?_
  refine nr_icmp_ne (tgt := 29) hx hb dX0_handle_19 (by decide) (by omega) (by omega) (fun c1 => ?_) (fun c1 => ?_)
  · have g9 := (hG.2.2.1 _ g7).2.2 (a % 4) (by omega)
    refine lv_aload_n hx hb dX0_handle_29 rfl (lv_at hl 2 rfl) ?_
    refine gx_f1 X hP dX0_handle_30 ?_
    refine nr_iconst (v := 3) hx hb dX0_handle_33 (by decide +kernel) ?_
    refine lv_iload hx hb dX0_handle_34 (lv_at hl 1 rfl) ?_
    refine nr_imul hx hb dX0_handle_36 ?_
    refine lv_iload hx hb dX0_handle_37 (lv_at hl 0 rfl) ?_
    refine nr_iadd hx hb dX0_handle_39 ?_
    refine gx_l2 X hP (by omega) dX0_handle_40 ?_
    refine lv_istore (lv' := [(6, .int (nI (gRt G ((3 * (a / 4)) + (a % 4))))), (5, .int (nI (a % 4))), (4, .int (nI (a / 4))), (0, .ref (h 0)), (1, .int (nI a)), (2, .int (nI b)), (3, .int (nI c0))]) hx hb dX0_handle_41 hl (by decide) rfl (fun ls hl => ?_)
    refine lv_iload hx hb dX0_handle_43 (lv_at hl 0 rfl) ?_
    refine nr_iconst (v := 5) hx hb dX0_handle_45 (by decide +kernel) ?_
    refine nr_icmp_lt (tgt := 80) hx hb dX0_handle_46 (by decide) (by omega) (by omega) (fun c2 => ?_) (fun c2 => ?_)
    · refine lv_aload_n hx hb dX0_handle_80 rfl (lv_at hl 3 rfl) ?_
      refine nr_bipush (v := 9) hx hb dX0_handle_81 (by decide +kernel) ?_
      refine lv_iload hx hb dX0_handle_83 (lv_at hl 0 rfl) ?_
      refine nr_imul hx hb dX0_handle_85 ?_
      refine lv_iload_n hx hb dX0_handle_86 rfl (lv_at hl 6 rfl) ?_
      refine nr_iadd hx hb dX0_handle_87 ?_
      refine lv_iload_n hx hb dX0_handle_88 rfl (lv_at hl 4 rfl) ?_
      refine nr_iconst (v := 1) hx hb dX0_handle_89 (by decide +kernel) ?_
      refine nr_iadd hx hb dX0_handle_90 ?_
      refine lv_iload_n hx hb dX0_handle_91 rfl (lv_at hl 5 rfl) ?_
      refine gx_callv X (rest := []) (As := [.int (nI ((9 * (gRt G ((3 * (a / 4)) + (a % 4)))) + c0)), .int (nI (a + 1)), .int (nI b)]) (n := 3) (mX_attend l D h ca A G E (9 * gRt G (3 * (a / 4) + a % 4) + c0) (a + 1) b hG (by omega) (by omega) (by omega)) (lw_V q150 q152 qs9 q23 q153) (by decide +kernel) ⟨by omega, by omega⟩ hP hS rfl hl.1 rfl (Nat.le_of_ble_eq_true rfl) dX0_handle_92 (fun u H locs hu hP hS => ?_)
      subst hu
      exact hret (G, attF G E (9 * gRt G (3 * (a / 4) + a % 4) + c0) (a + 1) b) _ _ _ _ dX0_handle_95 hP hS (by rw [handF, if_neg c1, if_neg (by omega)])
    · refine lv_iload_n hx hb dX0_handle_49 rfl (lv_at hl 6 rfl) ?_
      refine lv_aload_n hx hb dX0_handle_50 rfl (lv_at hl 3 rfl) ?_
      refine gx_f10 X hP dX0_handle_51 ?_
      refine nr_icmp_ge (tgt := 79) hx hb dX0_handle_54 (by decide) (by omega) (by omega) (fun c3 => ?_) (fun c3 => ?_)
      · exact hret (G, E) _ _ _ _ dX0_handle_79 hP hS (by rw [handF, if_neg c1, if_pos c2, if_neg (by omega)])
      · have g10 := hG.2.2.2 c0 c3
        refine lv_aload_n hx hb dX0_handle_57 rfl (lv_at hl 3 rfl) ?_
        refine gx_f3 X hP dX0_handle_58 ?_
        refine lv_iload_n hx hb dX0_handle_61 rfl (lv_at hl 6 rfl) ?_
        refine gx_l4 X hP (by omega) dX0_handle_62 ?_
        refine lv_iload hx hb dX0_handle_63 (lv_at hl 0 rfl) ?_
        refine nr_icmp_ne (tgt := 79) hx hb dX0_handle_65 (by decide) (by omega) (by omega) (fun c4 => ?_) (fun c4 => ?_)
        · exact hret (G, E) _ _ _ _ dX0_handle_79 hP hS (by rw [handF, if_neg c1, if_pos c2, if_neg (fun z => c4 z.2)])
        · refine lv_aload_n hx hb dX0_handle_68 rfl (lv_at hl 3 rfl) ?_
          refine lv_iload_n hx hb dX0_handle_69 rfl (lv_at hl 4 rfl) ?_
          refine nr_iconst (v := 1) hx hb dX0_handle_70 (by decide +kernel) ?_
          refine nr_iadd hx hb dX0_handle_71 ?_
          refine lv_iload_n hx hb dX0_handle_72 rfl (lv_at hl 5 rfl) ?_
          refine lv_iload_n hx hb dX0_handle_73 rfl (lv_at hl 6 rfl) ?_
          refine nr_iconst (v := 1) hx hb dX0_handle_74 (by decide +kernel) ?_
          refine nr_iadd hx hb dX0_handle_75 ?_
          refine gx_callv X (rest := []) (As := [.int (nI (a + 1)), .int (nI b), .int (nI (c0 + 1))]) (n := 3) (mX_add l D h ca A G E (a + 1) b (c0 + 1) (by omega) (by omega) (by omega)) (lw_V q130 q132 qs4 q23 q133) (by decide +kernel) ⟨by omega, by omega⟩ hP hS rfl hl.1 rfl (Nat.le_of_ble_eq_true rfl) dX0_handle_76 (fun u H locs hu hP hS => ?_)
          subst hu
          exact hret (G, addF E (((a + 1) * 45 + b) * 9 + (c0 + 1))) _ _ _ _ dX0_handle_79 hP hS (by rw [handF, if_neg c1, if_pos c2, if_pos ⟨c3, c4⟩])
  · refine lv_aload_n hx hb dX0_handle_22 rfl (lv_at hl 2 rfl) ?_
    refine lv_iload_n hx hb dX0_handle_23 rfl (lv_at hl 4 rfl) ?_
    refine lv_iload_n hx hb dX0_handle_24 rfl (lv_at hl 5 rfl) ?_
    refine gx_callv X (rest := []) (As := [.int (nI b), .int (nI c0)]) (n := 2) (mX_finish l D h ca A G E b c0 (by omega) (by omega)) (lw_V q146 q148 qs8 q23 q149) (by decide +kernel) ⟨by omega, by omega⟩ hP hS rfl hl.1 rfl (Nat.le_of_ble_eq_true rfl) dX0_handle_25 (fun u H locs hu hP hS => ?_)
    subst hu
    exact hret (G, finF E b c0) _ _ _ _ dX0_handle_28 hP hS (by rw [handF, if_pos c1])
set_option maxHeartbeats 4000000 in
set_option maxRecDepth 100000 in
theorem mX_start (l : Launch) (D : va_G) (h : Nat → Nat) (ca : Nat → ClassId) (A : Nat → Prop) (G : GG) (E : EE)  : Met l yX0_start (ws_ yX0_start cX0_start 2 none) ({ frames := 0, cells := 0, slots := 0, locals := 0 }) (PX D h ca A G E []) (va_Qv (fun u => u = (G, nilF)) (BX D h ca) A) 0 0 A := by
  refine gx_entv (by decide) rfl (Nat.le_of_ble_eq_true rfl) ?_
  intro p e s m below meth c R Q hRf hRl X hret H locs ls hP hS hl
  have hx := X.1.1
  have hb := X.1.2.1
  generalize hav : ([.ref (h 0)] : List Value).toArray = av at X hret ⊢
  have hl : lv_has ls 2 [(0, .ref (h 0))] := hl
  refine lv_aload_n hx hb dX0_start_0 rfl (lv_at hl 0 rfl) ?_
  refine nr_iconst (v := 0) hx hb dX0_start_1 (by decide +kernel) ?_
  refine gx_p11 X hP hS dX0_start_2 (fun H locs hP hS => ?_)
  refine nr_iconst (v := 0) hx hb dX0_start_5 (by decide +kernel) ?_
  refine lv_istore_n (lv' := [(1, .int (nI 0)), (0, .ref (h 0))]) hx hb dX0_start_6 rfl hl (by decide) rfl (fun ls hl => ?_)
  have hP : va_P D vwCl (wX h ca G (st1 E 0)) H := by rw [st1_0]; exact hP
  have lp1 : ∀ k0, k0 ≤ 608 → ∀ (H : Heap) (locs : List Loc) (ls : Array Slot), va_P D vwCl (wX h ca G (st1 E k0)) H → va_S A s.heap H locs → lv_has ls 2 [(0, .ref (h 0)), (1, .int (nI k0))] → W p l e R s m av below meth c H locs 0 0 Q (F0 m 7 ls []) := by
    refine gp_up (fun k0 hk_k0 ih => ?_)
    intro H locs ls hP hS hl
    refine lv_iload_n hx hb dX0_start_7 rfl (lv_at hl 1 rfl) ?_
    refine nr_sipush (v := 608) hx hb dX0_start_8 (by decide +kernel) ?_
    refine nr_icmp_ge (tgt := 34) hx hb dX0_start_11 (by decide) (by omega) (by omega) (fun c2 => ?_) (fun c2 => ?_)
    · have hr : k0 = 608 := by omega
      subst hr
      refine nr_iconst (v := 0) hx hb dX0_start_34 (by decide +kernel) ?_
      refine lv_istore_n (lv' := [(1, .int (nI 0)), (0, .ref (h 0))]) hx hb dX0_start_35 rfl hl (by decide) rfl (fun ls hl => ?_)
      have hP : va_P D vwCl (wX h ca G (st2 E 0)) H := by rw [st2_0]; exact hP
      have lp2 : ∀ k0, k0 ≤ 3060 → ∀ (H : Heap) (locs : List Loc) (ls : Array Slot), va_P D vwCl (wX h ca G (st2 E k0)) H → va_S A s.heap H locs → lv_has ls 2 [(0, .ref (h 0)), (1, .int (nI k0))] → W p l e R s m av below meth c H locs 0 0 Q (F0 m 36 ls []) := by
        refine gp_up (fun k0 hk_k0 ih2 => ?_)
        intro H locs ls hP hS hl
        refine lv_iload_n hx hb dX0_start_36 rfl (lv_at hl 1 rfl) ?_
        refine nr_sipush (v := 3060) hx hb dX0_start_37 (by decide +kernel) ?_
        refine nr_icmp_ge (tgt := 56) hx hb dX0_start_40 (by decide) (by omega) (by omega) (fun c3 => ?_) (fun c3 => ?_)
        · have hr : k0 = 3060 := by omega
          subst hr
          refine nr_iconst (v := 0) hx hb dX0_start_56 (by decide +kernel) ?_
          refine lv_istore_n (lv' := [(1, .int (nI 0)), (0, .ref (h 0))]) hx hb dX0_start_57 rfl hl (by decide) rfl (fun ls hl => ?_)
          have hP : va_P D vwCl (wX h ca G (st3 E 0)) H := by rw [st3_0]; exact hP
          have lp3 : ∀ k0, k0 ≤ 45 → ∀ (H : Heap) (locs : List Loc) (ls : Array Slot), va_P D vwCl (wX h ca G (st3 E k0)) H → va_S A s.heap H locs → lv_has ls 2 [(0, .ref (h 0)), (1, .int (nI k0))] → W p l e R s m av below meth c H locs 0 0 Q (F0 m 58 ls []) := by
            refine gp_up (fun k0 hk_k0 ih3 => ?_)
            intro H locs ls hP hS hl
            refine lv_iload_n hx hb dX0_start_58 rfl (lv_at hl 1 rfl) ?_
            refine nr_bipush (v := 45) hx hb dX0_start_59 (by decide +kernel) ?_
            refine nr_icmp_ge (tgt := 84) hx hb dX0_start_61 (by decide) (by omega) (by omega) (fun c4 => ?_) (fun c4 => ?_)
            · have hr : k0 = 45 := by omega
              subst hr
              have hP := nilW hP (st3_ok E)
              exact hret (G, nilF) _ _ _ _ dX0_start_84 hP hS rfl
            · refine lv_aload_n hx hb dX0_start_64 rfl (lv_at hl 0 rfl) ?_
              refine gx_f7 X hP dX0_start_65 ?_
              refine lv_iload_n hx hb dX0_start_68 rfl (lv_at hl 1 rfl) ?_
              refine nr_iconst (v := 0) hx hb dX0_start_69 (by decide +kernel) ?_
              refine gx_s8 (S' := fun d => if d / 32 = k0 then false else (eE (st3 E k0)) d) X hP hS (by omega) (wd_up0 _ _ _ (fun d => rfl)) dX0_start_70 (fun H locs hP hS => ?_)
              refine lv_aload_n hx hb dX0_start_71 rfl (lv_at hl 0 rfl) ?_
              refine gx_f8 X hP dX0_start_72 ?_
              refine lv_iload_n hx hb dX0_start_75 rfl (lv_at hl 1 rfl) ?_
              refine nr_iconst (v := 0) hx hb dX0_start_76 (by decide +kernel) ?_
              refine gx_s9 X hP hS false (by omega) rfl dX0_start_77 (fun H locs hP hS => ?_)
              refine lv_iinc (v := (nI (k0 + 1))) (lv' := [(1, .int (nI (k0 + 1))), (0, .ref (h 0))]) hx hb dX0_start_78 hl (k := 1) rfl (nI_i1 _) (by decide) rfl (fun ls hl => ?_)
              refine lv_goto (tgt := 58) hx hb dX0_start_81 (by decide) ?_
              rw [st3_s] at hP
              exact ih3 c4 _ _ _ hP hS (lv_sub hl [1, 0] rfl)
          exact lp3 0 (Nat.zero_le _) _ _ _ hP hS (lv_sub hl [1, 0] rfl)
        · refine lv_aload_n hx hb dX0_start_43 rfl (lv_at hl 0 rfl) ?_
          refine gx_f6 X hP dX0_start_44 ?_
          refine lv_iload_n hx hb dX0_start_47 rfl (lv_at hl 1 rfl) ?_
          refine nr_iconst (v := 0) hx hb dX0_start_48 (by decide +kernel) ?_
          refine gx_s7 (S' := fun d => if d / 32 = k0 then false else (eC (st2 E k0)) d) X hP hS (by omega) (wd_up0 _ _ _ (fun d => rfl)) dX0_start_49 (fun H locs hP hS => ?_)
          refine lv_iinc (v := (nI (k0 + 1))) (lv' := [(1, .int (nI (k0 + 1))), (0, .ref (h 0))]) hx hb dX0_start_50 hl (k := 1) rfl (nI_i1 _) (by decide) rfl (fun ls hl => ?_)
          refine lv_goto (tgt := 36) hx hb dX0_start_53 (by decide) ?_
          rw [st2_s] at hP
          exact ih2 c3 _ _ _ hP hS (lv_sub hl [1, 0] rfl)
      exact lp2 0 (Nat.zero_le _) _ _ _ hP hS (lv_sub hl [1, 0] rfl)
    · refine lv_aload_n hx hb dX0_start_14 rfl (lv_at hl 0 rfl) ?_
      refine gx_f4 X hP dX0_start_15 ?_
      refine lv_iload_n hx hb dX0_start_18 rfl (lv_at hl 1 rfl) ?_
      refine nr_iconst (v := 0) hx hb dX0_start_19 (by decide +kernel) ?_
      refine gx_s5 (S' := fun d => if d / 32 = k0 then false else (eS (st1 E k0)) d) X hP hS (by omega) (wd_up0 _ _ _ (fun d => rfl)) dX0_start_20 (fun H locs hP hS => ?_)
      refine lv_aload_n hx hb dX0_start_21 rfl (lv_at hl 0 rfl) ?_
      refine gx_f5 X hP dX0_start_22 ?_
      refine lv_iload_n hx hb dX0_start_25 rfl (lv_at hl 1 rfl) ?_
      refine nr_iconst (v := 0) hx hb dX0_start_26 (by decide +kernel) ?_
      refine gx_s6 (S' := fun d => if d / 32 = k0 then false else (eP (sES (st1 E k0) (fun d => if d / 32 = k0 then false else (eS (st1 E k0)) d))) d) X hP hS (by omega) (wd_up0 _ _ _ (fun d => rfl)) dX0_start_27 (fun H locs hP hS => ?_)
      refine lv_iinc (v := (nI (k0 + 1))) (lv' := [(1, .int (nI (k0 + 1))), (0, .ref (h 0))]) hx hb dX0_start_28 hl (k := 1) rfl (nI_i1 _) (by decide) rfl (fun ls hl => ?_)
      refine lv_goto (tgt := 7) hx hb dX0_start_31 (by decide) ?_
      rw [st1_s] at hP
      exact ih c2 _ _ _ hP hS (lv_sub hl [1, 0] rfl)
  exact lp1 0 (Nat.zero_le _) _ _ _ hP hS (lv_sub hl [1, 0] rfl)
end
section
/-! the engine runs: handleWord, run, endsOf, doesFit -/
set_option maxHeartbeats 4000000 in
set_option maxRecDepth 100000 in
theorem mX_handleWord (l : Launch) (D : va_G) (h : Nat → Nat) (ca : Nat → ClassId) (A : Nat → Prop) (G : GG) (E : EE) (w : Nat) (hG : okG G) (I : inv G none_ E) (I9 : inv9 E) (g1 : w < 608) : Met l yX0_handleWord (ws_ yX0_handleWord cX0_handleWord 5 none) ({ frames := 4, cells := 0, slots := 0, locals := 100 }) (PX D h ca A G E [.int (nI w)]) (va_Qv (fun u => u = (G, hwF G E w 32)) (BX D h ca) A) 0 0 A := by
  refine gx_entv (by decide) rfl (Nat.le_of_ble_eq_true rfl) ?_
  intro p e s m below meth c R Q hRf hRl X hret H locs ls hP hS hl
  have hx := X.1.1
  have hb := X.1.2.1
  generalize hav : ([.ref (h 0), .int (nI w)] : List Value).toArray = av at X hret ⊢
  have hl : lv_has ls 5 [(0, .ref (h 0)), (1, .int (nI w))] := hl
  refine nr_iconst (v := 0) hx hb dX0_handleWord_0 (by decide +kernel) ?_
  refine lv_istore_n (lv' := [(2, .int (nI 0)), (0, .ref (h 0)), (1, .int (nI w))]) hx hb dX0_handleWord_1 rfl hl (by decide) rfl (fun ls hl => ?_)
  have hP : va_P D vwCl (wX h ca G (hwF G E w 0)) H := hP
  have lp : ∀ k, k ≤ 32 → ∀ (H : Heap) (locs : List Loc) (ls : Array Slot), va_P D vwCl (wX h ca G (hwF G E w k)) H → va_S A s.heap H locs → lv_has ls 5 [(0, .ref (h 0)), (1, .int (nI w)), (2, .int (nI k))] → W p l e R s m av below meth c H locs 0 0 Q (F0 m 2 ls []) := by
    refine gp_up (fun k hk_k ih => ?_)
    intro H locs ls hP hS hl
    obtain ⟨I1, I2⟩ := inv_hw hG I I9 w k
    obtain ⟨F, hF⟩ : ∃ F, F = hwF G E w k := ⟨_, rfl⟩
    rw [← hF] at I1 I2 hP
    refine lv_iload_n hx hb dX0_handleWord_2 rfl (lv_at hl 2 rfl) ?_
    refine nr_bipush (v := 32) hx hb dX0_handleWord_3 (by decide +kernel) ?_
    refine nr_icmp_ge (tgt := 87) hx hb dX0_handleWord_5 (by decide) (by omega) (by omega) (fun c2 => ?_) (fun c2 => ?_)
    · have hr : k = 32 := by omega
      subst hr
      exact hret (G, F) _ _ _ _ dX0_handleWord_87 hP hS (by rw [hF])
    · obtain ⟨d, hd⟩ : ∃ d, d = 32 * w + k := ⟨_, rfl⟩
      refine lv_aload_n hx hb dX0_handleWord_8 rfl (lv_at hl 0 rfl) ?_
      refine gx_f5 X hP dX0_handleWord_9 ?_
      refine lv_iload_n hx hb dX0_handleWord_12 rfl (lv_at hl 1 rfl) ?_
      refine gx_l6 X hP (by omega) dX0_handleWord_13 ?_
      refine lv_iload_n hx hb dX0_handleWord_14 rfl (lv_at hl 2 rfl) ?_
      refine lv_iushr hx hb dX0_handleWord_15 rfl ?_
      refine nr_iconst (v := 1) hx hb dX0_handleWord_16 (by decide +kernel) ?_
      refine nr_ush (B := fun k => eP F (32 * w + k)) (k0 := k) hx hb dX0_handleWord_17 (by omega) ?_
      refine nr_iconst (v := 1) hx hb dX0_handleWord_18 (by decide +kernel) ?_
      refine nr_ne_b (tgt := 81) hx hb dX0_handleWord_19 (by decide) (fun c3 => ?_) (fun c3 => ?_)
      · have e1 : hwF G E w (k + 1) = F := by rw [hwF, ← hF, stepF, if_neg (by rw [c3]; exact Bool.false_ne_true)]
        refine lv_iinc (v := (nI (k + 1))) (lv' := [(2, .int (nI (k + 1))), (0, .ref (h 0)), (1, .int (nI w))]) hx hb dX0_handleWord_81 hl (k := 2) rfl (nI_i1 _) (by decide) rfl (fun ls hl => ?_)
        refine lv_goto (tgt := 2) hx hb dX0_handleWord_84 (by decide) ?_
        rw [← e1] at hP
        exact ih c2 _ _ _ hP hS (lv_sub hl [1, 2, 0] rfl)
      · have e1 : hwF G E w (k + 1) = handF G (popF F d) (d / 9 / 45) (d / 9 % 45) (d % 9) := by rw [hwF, ← hF, stepF, if_pos c3, hd]
        have c4 : eP F d = true := by rw [hd]; exact c3
        have o := I1.2.1 d (I1.1 d c4)
        have od := okD_lt hG o
        have hn : 1 ≤ eN (sEP F (va_up (eP F) d false)) := by
          have z := cnt_dn od c4
          have y := I1.2.2.2.2.2.2.2
          show 1 ≤ eN F
          omega
        refine lv_aload_n hx hb dX0_handleWord_22 rfl (lv_at hl 0 rfl) ?_
        refine gx_f5 X hP dX0_handleWord_23 ?_
        refine lv_iload_n hx hb dX0_handleWord_26 rfl (lv_at hl 1 rfl) ?_
        refine lv_aload_n hx hb dX0_handleWord_27 rfl (lv_at hl 0 rfl) ?_
        refine gx_f5 X hP dX0_handleWord_28 ?_
        refine lv_iload_n hx hb dX0_handleWord_31 rfl (lv_at hl 1 rfl) ?_
        refine gx_l6 X hP (by omega) dX0_handleWord_32 ?_
        refine nr_iconst (v := 1) hx hb dX0_handleWord_33 (by decide +kernel) ?_
        refine lv_iload_n hx hb dX0_handleWord_34 rfl (lv_at hl 2 rfl) ?_
        refine nr_shl1 hx hb dX0_handleWord_35 (by omega) ?_
        refine lv_iconst (v := -1) hx hb dX0_handleWord_36 (by decide +kernel) ?_
        refine lv_ixor hx hb dX0_handleWord_37 ?_
        refine nr_clr hx hb dX0_handleWord_38 ?_
        refine gx_s6 (S' := va_up (eP F) d false) X hP hS (by omega) (by rw [hd]; exact wd_up _ w k (by omega) false) dX0_handleWord_39 (fun H locs hP hS => ?_)
        refine lv_aload_n hx hb dX0_handleWord_40 rfl (lv_at hl 0 rfl) ?_
        refine lv_dup hx hb dX0_handleWord_41 rfl ?_
        refine gx_f11 X hP dX0_handleWord_42 ?_
        refine nr_iconst (v := 1) hx hb dX0_handleWord_45 (by decide +kernel) ?_
        refine nr_isub hx hb dX0_handleWord_46 (by omega) ?_
        refine gx_p11 X hP hS dX0_handleWord_47 (fun H locs hP hS => ?_)
        refine nr_bipush (v := 32) hx hb dX0_handleWord_50 (by decide +kernel) ?_
        refine lv_iload_n hx hb dX0_handleWord_52 rfl (lv_at hl 1 rfl) ?_
        refine nr_imul hx hb dX0_handleWord_53 ?_
        refine lv_iload_n hx hb dX0_handleWord_54 rfl (lv_at hl 2 rfl) ?_
        refine nr_iadd hx hb dX0_handleWord_55 ?_
        refine nr_top (y := (nI d)) (by rw [hd]) ?_
        have hP : va_P D vwCl (wX h ca G (popF F d)) H := hP
        refine lv_istore_n (lv' := [(3, .int (nI d)), (0, .ref (h 0)), (1, .int (nI w)), (2, .int (nI k))]) hx hb dX0_handleWord_56 rfl hl (by decide) rfl (fun ls hl => ?_)
        refine lv_iload_n hx hb dX0_handleWord_57 rfl (lv_at hl 0 rfl) ?_
        refine nr_bipush (v := 9) hx hb dX0_handleWord_58 (by decide +kernel) ?_
        refine nr_idiv hx hb dX0_handleWord_60 (by omega) (by omega) (by omega) ?_
        refine lv_istore (lv' := [(4, .int (nI (d / 9))), (3, .int (nI d)), (0, .ref (h 0)), (1, .int (nI w)), (2, .int (nI k))]) hx hb dX0_handleWord_61 hl (by decide) rfl (fun ls hl => ?_)
        refine lv_aload_n hx hb dX0_handleWord_63 rfl (lv_at hl 2 rfl) ?_
        refine lv_iload hx hb dX0_handleWord_64 (lv_at hl 0 rfl) ?_
        refine nr_bipush (v := 45) hx hb dX0_handleWord_66 (by decide +kernel) ?_
        refine nr_idiv hx hb dX0_handleWord_68 (by omega) (by omega) (by omega) ?_
        refine lv_iload hx hb dX0_handleWord_69 (lv_at hl 0 rfl) ?_
        refine nr_bipush (v := 45) hx hb dX0_handleWord_71 (by decide +kernel) ?_
        refine nr_irem hx hb dX0_handleWord_73 (by omega) (by omega) (by omega) ?_
        refine lv_iload_n hx hb dX0_handleWord_74 rfl (lv_at hl 1 rfl) ?_
        refine nr_bipush (v := 9) hx hb dX0_handleWord_75 (by decide +kernel) ?_
        refine nr_irem hx hb dX0_handleWord_77 (by omega) (by omega) (by omega) ?_
        refine gx_callv X (rest := []) (As := [.int (nI ((d / 9) / 45)), .int (nI ((d / 9) % 45)), .int (nI (d % 9))]) (n := 3) (mX_handle l D h ca A G (popF F d) (d / 9 / 45) (d / 9 % 45) (d % 9) hG o.1 o.2.1 (by omega) (by omega)) (lw_V q142 q144 qs7 q23 q145) (by decide +kernel) ⟨by omega, by omega⟩ hP hS rfl hl.1 rfl (Nat.le_of_ble_eq_true rfl) dX0_handleWord_78 (fun u H locs hu hP hS => ?_)
        subst hu
        have hP : va_P D vwCl (wX h ca G (handF G (popF F d) (d / 9 / 45) (d / 9 % 45) (d % 9))) H := hP
        rw [← e1] at hP
        refine lv_iinc (v := (nI (k + 1))) (lv' := [(2, .int (nI (k + 1))), (4, .int (nI (d / 9))), (3, .int (nI d)), (0, .ref (h 0)), (1, .int (nI w))]) hx hb dX0_handleWord_81 hl (k := 4) rfl (nI_i1 _) (by decide) rfl (fun ls hl => ?_)
        refine lv_goto (tgt := 2) hx hb dX0_handleWord_84 (by decide) ?_
        exact ih c2 _ _ _ hP hS (lv_sub hl [3, 4, 0] rfl)
  exact lp 0 (Nat.zero_le _) _ _ _ hP hS (lv_sub hl [1, 2, 0] rfl)
set_option maxHeartbeats 4000000 in
set_option maxRecDepth 100000 in
theorem mX_run (l : Launch) (D : va_G) (h : Nat → Nat) (ca : Nat → ClassId) (A : Nat → Prop) (G : GG) (E : EE) (hG : okG G) (I : inv G none_ E) (I9 : inv9 E) : Met l yX0_run (ws_ yX0_run cX0_run 3 none) ({ frames := 5, cells := 0, slots := 0, locals := 124 }) (PX D h ca A G E []) (va_Qv (fun u => u.1 = G ∧ inv G none_ u.2 ∧ eN u.2 = 0 ∧ ext E u.2) (BX D h ca) A) 0 0 A := by
  refine gx_entv (by decide) rfl (Nat.le_of_ble_eq_true rfl) ?_
  intro p e s m below meth c R Q hRf hRl X hret H locs ls hP hS hl
  have hx := X.1.1
  have hb := X.1.2.1
  generalize hav : ([.ref (h 0)] : List Value).toArray = av at X hret ⊢
  have hl : lv_has ls 3 [(0, .ref (h 0))] := hl
  refine nr_iconst (v := 0) hx hb dX0_run_0 (by decide +kernel) ?_
  refine lv_istore_n (lv' := [(1, .int (nI 0)), (0, .ref (h 0))]) hx hb dX0_run_1 rfl hl (by decide) rfl (fun ls hl => ?_)
  have lp : ∀ s0, s0 ≤ 19441 → ∀ (F : EE), inv G none_ F → inv9 F → ext E F → s0 ≤ hdl F → ∀ (H : Heap) (locs : List Loc) (ls : Array Slot), va_P D vwCl (wX h ca G F) H → va_S A s.heap H locs → lv_has ls 3 [(0, .ref (h 0)), (1, .int (nI s0))] → W p l e R s m av below meth c H locs 0 0 Q (F0 m 2 ls []) := by
    refine gp_up (fun s0 hk_s0 ih => ?_)
    intro F J J9 J2 J3 H locs ls hP hS hl
    have hn := eN_le J
    refine lv_iload_n hx hb dX0_run_2 rfl (lv_at hl 1 rfl) ?_
    refine nr_sipush (v := 19441) hx hb dX0_run_3 (by decide +kernel) ?_
    refine nr_icmp_ge (tgt := 51) hx hb dX0_run_6 (by decide) (by omega) (by omega) (fun c2 => ?_) (fun c2 => ?_)
    · exact absurd (hdl_le F) (by omega)
    · refine lv_aload_n hx hb dX0_run_9 rfl (lv_at hl 0 rfl) ?_
      refine gx_f11 X hP dX0_run_10 ?_
      refine nr_if_le (tgt := 51) hx hb dX0_run_13 (by decide) (by omega) (fun c3 => ?_) (fun c3 => ?_)
      · exact hret (G, F) _ _ _ _ dX0_run_51 hP hS ⟨rfl, J, c3, J2⟩
      · have hm := sw_more hG J J9 c3
        refine nr_iconst (v := 0) hx hb dX0_run_16 (by decide +kernel) ?_
        refine lv_istore_n (lv' := [(2, .int (nI 0)), (0, .ref (h 0)), (1, .int (nI s0))]) hx hb dX0_run_17 rfl hl (by decide) rfl (fun ls hl => ?_)
        have hP : va_P D vwCl (wX h ca G (swF G F 0)) H := hP
        have lp2 : ∀ w, w ≤ 608 → ∀ (H : Heap) (locs : List Loc) (ls : Array Slot), va_P D vwCl (wX h ca G (swF G F w)) H → va_S A s.heap H locs → lv_has ls 3 [(0, .ref (h 0)), (1, .int (nI s0)), (2, .int (nI w))] → W p l e R s m av below meth c H locs 0 0 Q (F0 m 18 ls []) := by
          refine gp_up (fun w hk_w ih2 => ?_)
          intro H locs ls hP hS hl
          obtain ⟨K, K2, K9⟩ := inv_sw hG J J9 w
          refine lv_iload_n hx hb dX0_run_18 rfl (lv_at hl 2 rfl) ?_
          refine nr_sipush (v := 608) hx hb dX0_run_19 (by decide +kernel) ?_
          refine nr_icmp_ge (tgt := 45) hx hb dX0_run_22 (by decide) (by omega) (by omega) (fun c4 => ?_) (fun c4 => ?_)
          · have hr : w = 608 := by omega
            rw [hr] at hP K K2 K9
            refine lv_iinc (v := (nI (s0 + 1))) (lv' := [(1, .int (nI (s0 + 1))), (0, .ref (h 0)), (2, .int (nI w))]) hx hb dX0_run_45 hl (k := 1) rfl (nI_i1 _) (by decide) rfl (fun ls hl => ?_)
            refine lv_goto (tgt := 2) hx hb dX0_run_48 (by decide) ?_
            exact ih c2 (swF G F 608) K K9 (J2.tr K2) (by omega) _ _ _ hP hS (lv_sub hl [1, 0] rfl)
          · refine lv_aload_n hx hb dX0_run_25 rfl (lv_at hl 0 rfl) ?_
            refine gx_f5 X hP dX0_run_26 ?_
            refine lv_iload_n hx hb dX0_run_29 rfl (lv_at hl 2 rfl) ?_
            refine gx_l6 X hP (by omega) dX0_run_30 ?_
            refine nr_if_eq_w (tgt := 39) hx hb dX0_run_31 (by decide) (fun c5 => ?_) (fun c5 => ?_)
            · have e1 : swF G F (w + 1) = swF G F w := hwF_nil c5 32 (Nat.le_refl _)
              refine lv_iinc (v := (nI (w + 1))) (lv' := [(2, .int (nI (w + 1))), (0, .ref (h 0)), (1, .int (nI s0))]) hx hb dX0_run_39 hl (k := 2) rfl (nI_i1 _) (by decide) rfl (fun ls hl => ?_)
              refine lv_goto (tgt := 18) hx hb dX0_run_42 (by decide) ?_
              rw [← e1] at hP
              exact ih2 c4 _ _ _ hP hS (lv_sub hl [1, 2, 0] rfl)
            · refine lv_aload_n hx hb dX0_run_34 rfl (lv_at hl 0 rfl) ?_
              refine lv_iload_n hx hb dX0_run_35 rfl (lv_at hl 2 rfl) ?_
              refine gx_callv X (rest := []) (As := [.int (nI w)]) (n := 1) (mX_handleWord l D h ca A G (swF G F w) w hG K K9 (by omega)) (lw_V q138 q140 qs6 q23 q141) (by decide +kernel) ⟨by omega, by omega⟩ hP hS rfl hl.1 rfl (Nat.le_of_ble_eq_true rfl) dX0_run_36 (fun u H locs hu hP hS => ?_)
              subst hu
              have hP : va_P D vwCl (wX h ca G (swF G F (w + 1))) H := hP
              refine lv_iinc (v := (nI (w + 1))) (lv' := [(2, .int (nI (w + 1))), (0, .ref (h 0)), (1, .int (nI s0))]) hx hb dX0_run_39 hl (k := 2) rfl (nI_i1 _) (by decide) rfl (fun ls hl => ?_)
              refine lv_goto (tgt := 18) hx hb dX0_run_42 (by decide) ?_
              exact ih2 c4 _ _ _ hP hS (lv_sub hl [1, 2, 0] rfl)
        exact lp2 0 (Nat.zero_le _) _ _ _ hP hS (lv_sub hl [1, 2, 0] rfl)
  exact lp 0 (Nat.zero_le _) E I I9 (ext.rf E) (Nat.zero_le _) _ _ _ hP hS (lv_sub hl [1, 0] rfl)
set_option maxHeartbeats 4000000 in
set_option maxRecDepth 100000 in
theorem mX_endsOf (l : Launch) (D : va_G) (h : Nat → Nat) (ca : Nat → ClassId) (A : Nat → Prop) (G : GG) (E : EE) (sg i : Nat) (hG : okG G) (g1 : sg < 8) (g2 : i ≤ gSi G) : Met l yX0_endsOf (ws_ yX0_endsOf cX0_endsOf 3 (some .int)) ({ frames := 6, cells := 0, slots := 0, locals := 146 }) (PX D h ca A G E [.int (nI sg), .int (nI i)]) (va_Qi (fun r u => u.1 = G ∧ r = bw (fun j => sfb (vX G) sg i j)) (BX D h ca) A) 0 0 A := by
  refine gx_enti (by decide) rfl (Nat.le_of_ble_eq_true rfl) ?_
  intro p e s m below meth c R Q hRf hRl X hret H locs ls hP hS hl
  have hx := X.1.1
  have hb := X.1.2.1
  generalize hav : ([.ref (h 0), .int (nI sg), .int (nI i)] : List Value).toArray = av at X hret ⊢
  have hl : lv_has ls 3 [(0, .ref (h 0)), (1, .int (nI sg)), (2, .int (nI i))] := hl
  have g3 := hG.2.1
  refine lv_iload_n hx hb dX0_endsOf_0 rfl (lv_at hl 1 rfl) ?_
  refine nr_iconst (v := 5) hx hb dX0_endsOf_1 (by decide +kernel) ?_
  refine nr_icmp_lt (tgt := 33) hx hb dX0_endsOf_2 (by decide) (by omega) (by omega) (fun c1 => ?_) (fun c1 => ?_)
  · refine lv_aload_n hx hb dX0_endsOf_33 rfl (lv_at hl 0 rfl) ?_
    refine gx_callv X (rest := []) (As := []) (n := 0) (mX_start l D h ca A G E) (lw_V q122 q124 qs2 q23 q125) (by decide +kernel) ⟨by omega, by omega⟩ hP hS rfl hl.1 rfl (Nat.le_of_ble_eq_true rfl) dX0_endsOf_34 (fun u H locs hu hP hS => ?_)
    subst hu
    have hP : va_P D vwCl (wX h ca G nilF) H := hP
    obtain ⟨K, _, _, K4⟩ := inv_call (v := 9 * sg + i) hG (inv_nil G).1 (by omega) (by rw [show (9 * sg + i) % 9 = i by omega]; exact g2)
    refine lv_aload_n hx hb dX0_endsOf_37 rfl (lv_at hl 0 rfl) ?_
    refine nr_bipush (v := 9) hx hb dX0_endsOf_38 (by decide +kernel) ?_
    refine lv_iload_n hx hb dX0_endsOf_40 rfl (lv_at hl 1 rfl) ?_
    refine nr_imul hx hb dX0_endsOf_41 ?_
    refine lv_iload_n hx hb dX0_endsOf_42 rfl (lv_at hl 2 rfl) ?_
    refine nr_iadd hx hb dX0_endsOf_43 ?_
    refine gx_callv X (rest := []) (As := [.int (nI ((9 * sg) + i))]) (n := 1) (mX_call l D h ca A G nilF (9 * sg + i) hG (by omega)) (lw_V q126 q128 qs3 q23 q129) (by decide +kernel) ⟨by omega, by omega⟩ hP hS rfl hl.1 rfl (Nat.le_of_ble_eq_true rfl) dX0_endsOf_44 (fun u H locs hu hP hS => ?_)
    subst hu
    have hP : va_P D vwCl (wX h ca G (callF G nilF (9 * sg + i))) H := hP
    refine lv_aload_n hx hb dX0_endsOf_47 rfl (lv_at hl 0 rfl) ?_
    refine gx_callv X (rest := []) (As := []) (n := 0) (mX_run l D h ca A G (callF G nilF (9 * sg + i)) hG K (inv9_call G _)) (lw_V q134 q136 qs5 q23 q137) (by decide +kernel) ⟨by omega, by omega⟩ hP hS rfl hl.1 rfl (Nat.le_of_ble_eq_true rfl) dX0_endsOf_48 (fun u H locs hu hP hS => ?_)
    obtain ⟨u1, F⟩ := u
    obtain ⟨hu1, J, hN, J2⟩ := hu
    have hu1 : u1 = G := hu1
    have J : inv G none_ F := J
    have hN : eN F = 0 := hN
    have hO : eO F (9 * sg + i) = true := J2.2.2.2 _ K4
    have hP : va_P D vwCl (wX h ca G F) H := by rw [← hu1]; exact hP
    refine lv_aload_n hx hb dX0_endsOf_51 rfl (lv_at hl 0 rfl) ?_
    refine gx_f7 X hP dX0_endsOf_52 ?_
    refine nr_bipush (v := 9) hx hb dX0_endsOf_55 (by decide +kernel) ?_
    refine lv_iload_n hx hb dX0_endsOf_57 rfl (lv_at hl 1 rfl) ?_
    refine nr_imul hx hb dX0_endsOf_58 ?_
    refine lv_iload_n hx hb dX0_endsOf_59 rfl (lv_at hl 2 rfl) ?_
    refine nr_iadd hx hb dX0_endsOf_60 ?_
    refine gx_l8 X hP (by omega) dX0_endsOf_61 ?_
    exact hret _ (G, F) _ _ _ _ dX0_endsOf_62 rfl hP hS ⟨rfl, bw_eq (fun j hj => sfb_eq (by rw [gll_end hG J hN c1 g2 hj hO]; exact ⟨fun z => Or.inr ⟨c1, z⟩, fun z => by rcases z with ⟨z, _⟩ | ⟨_, z⟩; omega; exact z⟩))⟩
  · refine lv_iload_n hx hb dX0_endsOf_5 rfl (lv_at hl 2 rfl) ?_
    refine lv_aload_n hx hb dX0_endsOf_6 rfl (lv_at hl 0 rfl) ?_
    refine gx_f10 X hP dX0_endsOf_7 ?_
    refine nr_icmp_ge (tgt := 31) hx hb dX0_endsOf_10 (by decide) (by omega) (by omega) (fun c2 => ?_) (fun c2 => ?_)
    · refine nr_iconst (v := 0) hx hb dX0_endsOf_31 (by decide +kernel) ?_
      exact hret _ (G, E) _ _ _ _ dX0_endsOf_32 rfl hP hS ⟨rfl, by rw [nI_0, ← bw_zero]; exact bw_eq (fun j hj => sfb_eq ⟨fun z => absurd z Bool.false_ne_true, fun z => by rcases z with ⟨_, z1, z2, _⟩ | ⟨z1, _⟩; exact absurd z1 (Nat.not_lt.mpr c2); omega⟩)⟩
    · have g10 := hG.2.2.2 i c2
      refine lv_aload_n hx hb dX0_endsOf_13 rfl (lv_at hl 0 rfl) ?_
      refine gx_f3 X hP dX0_endsOf_14 ?_
      refine lv_iload_n hx hb dX0_endsOf_17 rfl (lv_at hl 2 rfl) ?_
      refine gx_l4 X hP (by omega) dX0_endsOf_18 ?_
      refine lv_iload_n hx hb dX0_endsOf_19 rfl (lv_at hl 1 rfl) ?_
      refine nr_icmp_ne (tgt := 31) hx hb dX0_endsOf_20 (by decide) (by omega) (by omega) (fun c3 => ?_) (fun c3 => ?_)
      · refine nr_iconst (v := 0) hx hb dX0_endsOf_31 (by decide +kernel) ?_
        exact hret _ (G, E) _ _ _ _ dX0_endsOf_32 rfl hP hS ⟨rfl, by rw [nI_0, ← bw_zero]; exact bw_eq (fun j hj => sfb_eq ⟨fun z => absurd z Bool.false_ne_true, fun z => by rcases z with ⟨_, z1, z2, _⟩ | ⟨z1, _⟩; exact absurd z2 c3; omega⟩)⟩
      · refine nr_iconst (v := 1) hx hb dX0_endsOf_23 (by decide +kernel) ?_
        refine lv_iload_n hx hb dX0_endsOf_24 rfl (lv_at hl 2 rfl) ?_
        refine nr_iconst (v := 1) hx hb dX0_endsOf_25 (by decide +kernel) ?_
        refine nr_iadd hx hb dX0_endsOf_26 ?_
        refine nr_shl1 hx hb dX0_endsOf_27 (by omega) ?_
        refine lv_goto (tgt := 32) hx hb dX0_endsOf_28 (by decide) ?_
        exact hret _ (G, E) _ _ _ _ dX0_endsOf_32 rfl hP hS ⟨rfl, bw_eq (fun j hj => sfb_eq ⟨fun z => Or.inl ⟨c1, c2, c3, of_decide_eq_true z⟩, fun z => by rcases z with ⟨_, _, _, z⟩ | ⟨z, _⟩; exact decide_eq_true z; omega⟩)⟩
set_option maxHeartbeats 4000000 in
set_option maxRecDepth 100000 in
theorem mX_doesFit (l : Launch) (D : va_G) (h : Nat → Nat) (ca : Nat → ClassId) (A : Nat → Prop) (G : GG) (E : EE) (r i j : Nat) (hG : okG G) (g1 : r < gCn G) (g2 : i ≤ j) (g3 : j ≤ gSi G) : Met l yX0_doesFit (ws_ yX0_doesFit cX0_doesFit 8 (some .boolean)) ({ frames := 7, cells := 0, slots := 0, locals := 168 }) (PX D h ca A G E [.int (nI r), .int (nI i), .int (nI j)]) (va_Qi (fun rr u => u.1 = G ∧ rr = nI (rfb (vX G) r i j).toNat) (BX D h ca) A) 0 0 A := by
  refine gx_enti (by decide) rfl (Nat.le_of_ble_eq_true rfl) ?_
  intro p e s m below meth c R Q hRf hRl X hret H locs ls hP hS hl
  have hx := X.1.1
  have hb := X.1.2.1
  generalize hav : ([.ref (h 0), .int (nI r), .int (nI i), .int (nI j)] : List Value).toArray = av at X hret ⊢
  have hl : lv_has ls 8 [(0, .ref (h 0)), (1, .int (nI r)), (2, .int (nI i)), (3, .int (nI j))] := hl
  have g6 := hG.1
  have g4 := hG.2.1
  obtain ⟨_, g5, gr⟩ := hG.2.2.1 r g1
  refine nr_iconst (v := 1) hx hb dX0_doesFit_0 (by decide +kernel) ?_
  refine lv_iload_n hx hb dX0_doesFit_1 rfl (lv_at hl 2 rfl) ?_
  refine nr_shl1 hx hb dX0_doesFit_2 (by omega) ?_
  refine lv_istore (lv' := [(4, .int (bw (bs i))), (0, .ref (h 0)), (1, .int (nI r)), (2, .int (nI i)), (3, .int (nI j))]) hx hb dX0_doesFit_3 hl (by decide) rfl (fun ls hl => ?_)
  refine nr_iconst (v := 0) hx hb dX0_doesFit_5 (by decide +kernel) ?_
  refine lv_istore (lv' := [(5, .int (nI 0)), (4, .int (bw (bs i))), (0, .ref (h 0)), (1, .int (nI r)), (2, .int (nI i)), (3, .int (nI j))]) hx hb dX0_doesFit_6 hl (by decide) rfl (fun ls hl => ?_)
  have lp : ∀ k, k ≤ gSz G r → ∀ (F : EE) (B : Nat → Bool), (∀ x, x ≤ j → (B x = true ↔ preT (vX G) (Fits (vX G)) r i k x)) → ∀ (H : Heap) (locs : List Loc) (ls : Array Slot), va_P D vwCl (wX h ca G F) H → va_S A s.heap H locs → lv_has ls 8 [(0, .ref (h 0)), (1, .int (nI r)), (2, .int (nI i)), (3, .int (nI j)), (4, .int (bw B)), (5, .int (nI k))] → W p l e R s m av below meth c H locs 0 0 Q (F0 m 8 ls []) := by
    refine gp_up (fun k hk_k ih => ?_)
    intro F B hB H locs ls hP hS hl
    refine lv_iload hx hb dX0_doesFit_8 (lv_at hl 5 rfl) ?_
    refine lv_aload_n hx hb dX0_doesFit_10 rfl (lv_at hl 0 rfl) ?_
    refine gx_f2 X hP dX0_doesFit_11 ?_
    refine lv_iload_n hx hb dX0_doesFit_14 rfl (lv_at hl 1 rfl) ?_
    refine gx_l3 X hP (by omega) dX0_doesFit_15 ?_
    refine nr_icmp_ge (tgt := 80) hx hb dX0_doesFit_16 (by decide) (by omega) (by omega) (fun c2 => ?_) (fun c2 => ?_)
    · have hr : k = gSz G r := by omega
      subst hr
      refine lv_iload hx hb dX0_doesFit_80 (lv_at hl 4 rfl) ?_
      refine lv_iload_n hx hb dX0_doesFit_82 rfl (lv_at hl 3 rfl) ?_
      refine lv_ishr hx hb dX0_doesFit_83 ?_
      refine nr_iconst (v := 1) hx hb dX0_doesFit_84 (by decide +kernel) ?_
      refine nr_shr (B := B) (k0 := j) hx hb dX0_doesFit_85 (by omega) ?_
      refine nr_iconst (v := 1) hx hb dX0_doesFit_86 (by decide +kernel) ?_
      refine nr_ne_b (tgt := 94) hx hb dX0_doesFit_87 (by decide) (fun c3 => ?_) (fun c3 => ?_)
      · refine nr_iconst (v := 0) hx hb dX0_doesFit_94 (by decide +kernel) ?_
        exact hret (nI 0) (G, F) _ _ _ _ dX0_doesFit_95 (by decide +kernel) hP hS ⟨rfl, by rw [← rfb_eq (b := false) ⟨fun z => absurd z Bool.false_ne_true, fun z => by rw [← c3]; exact (hB j (Nat.le_refl _)).mpr z⟩]; rfl⟩
      · refine nr_iconst (v := 1) hx hb dX0_doesFit_90 (by decide +kernel) ?_
        refine lv_goto (tgt := 95) hx hb dX0_doesFit_91 (by decide) ?_
        exact hret (nI 1) (G, F) _ _ _ _ dX0_doesFit_95 (by decide +kernel) hP hS ⟨rfl, by rw [← rfb_eq (b := true) ⟨fun _ => (hB j (Nat.le_refl _)).mp c3, fun _ => rfl⟩]; rfl⟩
    · have gk := gr k c2
      refine nr_iconst (v := 0) hx hb dX0_doesFit_19 (by decide +kernel) ?_
      refine nr_top (y := (bw (fun _ => false))) (nI_0.trans bw_zero.symm) ?_
      refine lv_istore (lv' := [(6, .int (bw (fun _ => false))), (0, .ref (h 0)), (1, .int (nI r)), (2, .int (nI i)), (3, .int (nI j)), (4, .int (bw B)), (5, .int (nI k))]) hx hb dX0_doesFit_20 hl (by decide) rfl (fun ls hl => ?_)
      refine lv_iload_n hx hb dX0_doesFit_22 rfl (lv_at hl 3 rfl) ?_
      refine lv_istore (lv' := [(7, .int (nI i)), (6, .int (bw (fun _ => false))), (0, .ref (h 0)), (1, .int (nI r)), (2, .int (nI i)), (3, .int (nI j)), (4, .int (bw B)), (5, .int (nI k))]) hx hb dX0_doesFit_23 hl (by decide) rfl (fun ls hl => ?_)
      have lp2 : ∀ q, q ≤ j + 1 → ∀ (F2 : EE) (C : Nat → Bool), i ≤ q → (∀ x, x ≤ j → (C x = true ↔ ∃ z, i ≤ z ∧ z < q ∧ B z = true ∧ sgT (vX G) (Fits (vX G)) (gRt G (3 * r + k)) z x)) → ∀ (H : Heap) (locs : List Loc) (ls : Array Slot), va_P D vwCl (wX h ca G F2) H → va_S A s.heap H locs → lv_has ls 8 [(0, .ref (h 0)), (1, .int (nI r)), (2, .int (nI i)), (3, .int (nI j)), (4, .int (bw B)), (5, .int (nI k)), (6, .int (bw C)), (7, .int (nI q))] → W p l e R s m av below meth c H locs 0 0 Q (F0 m 25 ls []) := by
        refine gp_up (fun q hk_q ih2 => ?_)
        intro F2 C hq1 hC H locs ls hP hS hl
        refine lv_iload hx hb dX0_doesFit_25 (lv_at hl 7 rfl) ?_
        refine lv_iload_n hx hb dX0_doesFit_27 rfl (lv_at hl 3 rfl) ?_
        refine nr_icmp_gt (tgt := 70) hx hb dX0_doesFit_28 (by decide) (by omega) (by omega) (fun c3 => ?_) (fun c3 => ?_)
        · have hq : q = j + 1 := by omega
          rw [hq] at hC
          have hB2 : ∀ x, x ≤ j → (C x = true ↔ preT (vX G) (Fits (vX G)) r i (k + 1) x) := by
            intro x hx
            rw [hC x hx]
            constructor
            · rintro ⟨z, z1, z2, z3, z4⟩
              exact ⟨z, (hB z (by omega)).mp z3, z4⟩
            · rintro ⟨z, z1, z2⟩
              have y := preT_in (fun _ _ _ t => Fits_in t) (show i ≤ vLn (vX G) by show i ≤ gSi G; omega) z1
              have y2 := sgT_in z2 y.2
              exact ⟨z, y.1, by omega, (hB z (by omega)).mpr z1, z2⟩
          refine lv_iload hx hb dX0_doesFit_70 (lv_at hl 6 rfl) ?_
          refine lv_istore (lv' := [(4, .int (bw C)), (0, .ref (h 0)), (1, .int (nI r)), (2, .int (nI i)), (3, .int (nI j)), (5, .int (nI k)), (6, .int (bw C)), (7, .int (nI q))]) hx hb dX0_doesFit_72 hl (by decide) rfl (fun ls hl => ?_)
          refine lv_iinc (v := (nI (k + 1))) (lv' := [(5, .int (nI (k + 1))), (4, .int (bw C)), (0, .ref (h 0)), (1, .int (nI r)), (2, .int (nI i)), (3, .int (nI j)), (6, .int (bw C)), (7, .int (nI q))]) hx hb dX0_doesFit_74 hl (k := 5) rfl (nI_i1 _) (by decide) rfl (fun ls hl => ?_)
          refine lv_goto (tgt := 8) hx hb dX0_doesFit_77 (by decide) ?_
          exact ih c2 F2 C hB2 _ _ _ hP hS (lv_sub hl [2, 3, 4, 5, 1, 0] rfl)
        · refine lv_iload hx hb dX0_doesFit_31 (lv_at hl 4 rfl) ?_
          refine lv_iload hx hb dX0_doesFit_33 (lv_at hl 7 rfl) ?_
          refine lv_ishr hx hb dX0_doesFit_35 ?_
          refine nr_iconst (v := 1) hx hb dX0_doesFit_36 (by decide +kernel) ?_
          refine nr_shr (B := B) (k0 := q) hx hb dX0_doesFit_37 (by omega) ?_
          refine nr_iconst (v := 1) hx hb dX0_doesFit_38 (by decide +kernel) ?_
          refine nr_ne_b (tgt := 64) hx hb dX0_doesFit_39 (by decide) (fun c4 => ?_) (fun c4 => ?_)
          · have hC2 : ∀ x, x ≤ j → (C x = true ↔ ∃ z, i ≤ z ∧ z < q + 1 ∧ B z = true ∧ sgT (vX G) (Fits (vX G)) (gRt G (3 * r + k)) z x) := by
              intro x hx
              rw [hC x hx]
              constructor
              · rintro ⟨z, z1, z2, z3⟩
                exact ⟨z, z1, by omega, z3⟩
              · rintro ⟨z, z1, z2, z3, z4⟩
                rcases Nat.lt_or_ge z q with y | y
                · exact ⟨z, z1, y, z3, z4⟩
                · have e : z = q := by omega
                  rw [e, c4] at z3
                  cases z3
            refine lv_iinc (v := (nI (q + 1))) (lv' := [(7, .int (nI (q + 1))), (0, .ref (h 0)), (1, .int (nI r)), (2, .int (nI i)), (3, .int (nI j)), (4, .int (bw B)), (5, .int (nI k)), (6, .int (bw C))]) hx hb dX0_doesFit_64 hl (k := 7) rfl (nI_i1 _) (by decide) rfl (fun ls hl => ?_)
            refine lv_goto (tgt := 25) hx hb dX0_doesFit_67 (by decide) ?_
            exact ih2 (by omega) F2 C (by omega) hC2 _ _ _ hP hS (lv_sub hl [1, 2, 3, 4, 5, 6, 7, 0] rfl)
          · refine lv_iload hx hb dX0_doesFit_42 (lv_at hl 6 rfl) ?_
            refine lv_aload_n hx hb dX0_doesFit_44 rfl (lv_at hl 0 rfl) ?_
            refine lv_aload_n hx hb dX0_doesFit_45 rfl (lv_at hl 0 rfl) ?_
            refine gx_f1 X hP dX0_doesFit_46 ?_
            refine nr_iconst (v := 3) hx hb dX0_doesFit_49 (by decide +kernel) ?_
            refine lv_iload_n hx hb dX0_doesFit_50 rfl (lv_at hl 1 rfl) ?_
            refine nr_imul hx hb dX0_doesFit_51 ?_
            refine lv_iload hx hb dX0_doesFit_52 (lv_at hl 5 rfl) ?_
            refine nr_iadd hx hb dX0_doesFit_54 ?_
            refine gx_l2 X hP (by omega) dX0_doesFit_55 ?_
            refine lv_iload hx hb dX0_doesFit_56 (lv_at hl 7 rfl) ?_
            refine gx_calli X (rest := [.int (bw C)]) (As := [.int (nI (gRt G ((3 * r) + k))), .int (nI q)]) (n := 2) (mX_endsOf l D h ca A G F2 (gRt G (3 * r + k)) q hG gk (by omega)) (lw_V q118 q120 qs1 q23 q121) (by decide +kernel) ⟨by omega, by omega⟩ hP hS rfl hl.1 rfl (Nat.le_of_ble_eq_true rfl) dX0_doesFit_58 (fun rr u H locs hu hP hS => ?_)
            obtain ⟨u1, F3⟩ := u
            obtain ⟨hu1, hr1⟩ := hu
            subst hr1
            have hu1 : u1 = G := hu1
            have hP : va_P D vwCl (wX h ca G F3) H := by rw [← hu1]; exact hP
            have hC2 : ∀ x, x ≤ j → ((C x || sfb (vX G) (gRt G (3 * r + k)) q x) = true ↔ ∃ z, i ≤ z ∧ z < q + 1 ∧ B z = true ∧ sgT (vX G) (Fits (vX G)) (gRt G (3 * r + k)) z x) := by
              intro x hx
              rw [Bool.or_eq_true, hC x hx, sfb_iff]
              constructor
              · rintro (⟨z, z1, z2, z3⟩ | z)
                · exact ⟨z, z1, by omega, z3⟩
                · exact ⟨q, hq1, by omega, c4, z⟩
              · rintro ⟨z, z1, z2, z3, z4⟩
                rcases Nat.lt_or_ge z q with y | y
                · exact Or.inl ⟨z, z1, y, z3, z4⟩
                · have e : z = q := by omega
                  rw [e] at z4
                  exact Or.inr z4
            refine nr_ior hx hb dX0_doesFit_61 ?_
            refine lv_istore (lv' := [(6, .int (bw (fun i => C i || sfb (vX G) (gRt G (3 * r + k)) q i))), (0, .ref (h 0)), (1, .int (nI r)), (2, .int (nI i)), (3, .int (nI j)), (4, .int (bw B)), (5, .int (nI k)), (7, .int (nI q))]) hx hb dX0_doesFit_62 hl (by decide) rfl (fun ls hl => ?_)
            refine lv_iinc (v := (nI (q + 1))) (lv' := [(7, .int (nI (q + 1))), (6, .int (bw (fun i => C i || sfb (vX G) (gRt G (3 * r + k)) q i))), (0, .ref (h 0)), (1, .int (nI r)), (2, .int (nI i)), (3, .int (nI j)), (4, .int (bw B)), (5, .int (nI k))]) hx hb dX0_doesFit_64 hl (k := 7) rfl (nI_i1 _) (by decide) rfl (fun ls hl => ?_)
            refine lv_goto (tgt := 25) hx hb dX0_doesFit_67 (by decide) ?_
            exact ih2 (by omega) F3 (fun i => C i || sfb (vX G) (gRt G (3 * r + k)) q i) (by omega) hC2 _ _ _ hP hS (lv_sub hl [2, 3, 4, 5, 6, 7, 1, 0] rfl)
      exact lp2 i (by omega) F (fun _ => false) (Nat.le_refl _) (fun x hx => ⟨fun z => absurd z Bool.false_ne_true, fun ⟨z, z1, z2, _⟩ => by omega⟩) _ _ _ hP hS (lv_sub hl [2, 3, 4, 5, 6, 7, 1, 0] rfl)
  exact lp 0 (Nat.zero_le _) E (bs i) (fun x hx => ⟨fun z => (of_decide_eq_true z : x = i), fun z => decide_eq_true (show x = i from z)⟩) _ _ _ hP hS (lv_sub hl [2, 3, 4, 5, 1, 0] rfl)
end
section
/-! the small methods; rule, drop, clear, rules, push, pop, write, length -/
set_option maxHeartbeats 4000000 in
set_option maxRecDepth 100000 in
theorem mX_isName (l : Launch) (a : Int32) : Met l yX0_isName (ws_ yX0_isName cX0_isName 1 (some .boolean)) ({ frames := 0, cells := 0, slots := 0, locals := 0 }) (fun v _ => v = ([.int a] : List Value).toArray) (vp_Si (fun r => r = nI (isN a).toNat)) 0 0 (fun _ => False) := by
  refine gx_ents (by decide) rfl (Nat.le_of_ble_eq_true rfl) ?_
  intro p e s m below meth c R Q hRf hRl X hret ls hl
  have hx := X.1
  have hb := X.2.1
  generalize hav : ([.int a] : List Value).toArray = av at X hret ⊢
  have hl : lv_has ls 1 [(0, .int a)] := hl
  refine lv_iload_n hx hb dX0_isName_0 rfl (lv_at hl 0 rfl) ?_
  refine lv_if_lt (tgt := 13) hx hb dX0_isName_1 (by decide) (fun c1 => ?_) (fun c1 => ?_)
  · refine nr_iconst (v := 0) hx hb dX0_isName_13 (by decide +kernel) ?_
    exact hret (nI 0) _ _ dX0_isName_14 (by decide +kernel) (by rw [show isN a = false from decide_eq_false (fun z => i32_lt c1 z.1)]; rfl)
  · refine lv_iload_n hx hb dX0_isName_4 rfl (lv_at hl 0 rfl) ?_
    refine nr_iconst (v := 5) hx hb dX0_isName_5 (by decide +kernel) ?_
    refine lv_icmp_ge (tgt := 13) hx hb dX0_isName_6 (by decide) (fun c2 => ?_) (fun c2 => ?_)
    · refine nr_iconst (v := 0) hx hb dX0_isName_13 (by decide +kernel) ?_
      exact hret (nI 0) _ _ dX0_isName_14 (by decide +kernel) (by rw [show isN a = false from decide_eq_false (fun z => i32_le c2 z.2)]; rfl)
    · refine nr_iconst (v := 1) hx hb dX0_isName_9 (by decide +kernel) ?_
      refine lv_goto (tgt := 14) hx hb dX0_isName_10 (by decide) ?_
      exact hret (nI 1) _ _ dX0_isName_14 (by decide +kernel) (by rw [show isN a = true from decide_eq_true ⟨i32_nlt c1, i32_nle c2⟩]; rfl)
set_option maxHeartbeats 4000000 in
set_option maxRecDepth 100000 in
theorem mX_isSign (l : Launch) (a : Int32) : Met l yX0_isSign (ws_ yX0_isSign cX0_isSign 1 (some .boolean)) ({ frames := 0, cells := 0, slots := 0, locals := 0 }) (fun v _ => v = ([.int a] : List Value).toArray) (vp_Si (fun r => r = nI (isS a).toNat)) 0 0 (fun _ => False) := by
  refine gx_ents (by decide) rfl (Nat.le_of_ble_eq_true rfl) ?_
  intro p e s m below meth c R Q hRf hRl X hret ls hl
  have hx := X.1
  have hb := X.2.1
  generalize hav : ([.int a] : List Value).toArray = av at X hret ⊢
  have hl : lv_has ls 1 [(0, .int a)] := hl
  refine lv_iload_n hx hb dX0_isSign_0 rfl (lv_at hl 0 rfl) ?_
  refine lv_if_lt (tgt := 14) hx hb dX0_isSign_1 (by decide) (fun c1 => ?_) (fun c1 => ?_)
  · refine nr_iconst (v := 0) hx hb dX0_isSign_14 (by decide +kernel) ?_
    exact hret (nI 0) _ _ dX0_isSign_15 (by decide +kernel) (by rw [show isS a = false from decide_eq_false (fun z => i32_lt c1 z.1)]; rfl)
  · refine lv_iload_n hx hb dX0_isSign_4 rfl (lv_at hl 0 rfl) ?_
    refine nr_bipush (v := 7) hx hb dX0_isSign_5 (by decide +kernel) ?_
    refine lv_icmp_gt (tgt := 14) hx hb dX0_isSign_7 (by decide) (fun c2 => ?_) (fun c2 => ?_)
    · refine nr_iconst (v := 0) hx hb dX0_isSign_14 (by decide +kernel) ?_
      exact hret (nI 0) _ _ dX0_isSign_15 (by decide +kernel) (by rw [show isS a = false from decide_eq_false (fun z => i32_lt c2 z.2)]; rfl)
    · refine nr_iconst (v := 1) hx hb dX0_isSign_10 (by decide +kernel) ?_
      refine lv_goto (tgt := 15) hx hb dX0_isSign_11 (by decide) ?_
      exact hret (nI 1) _ _ dX0_isSign_15 (by decide +kernel) (by rw [show isS a = true from decide_eq_true ⟨i32_nlt c1, i32_nlt c2⟩]; rfl)
set_option maxHeartbeats 4000000 in
set_option maxRecDepth 100000 in
theorem mX_isRule (l : Launch) (D : va_G) (h : Nat → Nat) (ca : Nat → ClassId) (A : Nat → Prop) (G : GG) (E : EE) (a : Int32) : Met l yX0_isRule (ws_ yX0_isRule cX0_isRule 2 (some .boolean)) ({ frames := 0, cells := 0, slots := 0, locals := 0 }) (PX D h ca A G E [.int a]) (vp_Si (fun r => r = nI (isR (gCn G) a).toNat)) 0 0 (fun _ => False) := by
  refine gx_entS (by decide) rfl (Nat.le_of_ble_eq_true rfl) ?_
  intro p e s m below meth c R Q hRf hRl X hret ls hP hS hl
  have hx := X.1.1
  have hb := X.1.2.1
  generalize hav : ([.ref (h 0), .int a] : List Value).toArray = av at X hret ⊢
  have hl : lv_has ls 2 [(0, .ref (h 0)), (1, .int a)] := hl
  refine lv_iload_n hx hb dX0_isRule_0 rfl (lv_at hl 1 rfl) ?_
  refine lv_if_lt (tgt := 16) hx hb dX0_isRule_1 (by decide) (fun c1 => ?_) (fun c1 => ?_)
  · refine nr_iconst (v := 0) hx hb dX0_isRule_16 (by decide +kernel) ?_
    exact hret (nI 0) _ _ dX0_isRule_17 (by decide +kernel) (by rw [show isR (gCn G) a = false from decide_eq_false (fun z => i32_lt c1 z.1)]; rfl)
  · refine lv_iload_n hx hb dX0_isRule_4 rfl (lv_at hl 1 rfl) ?_
    refine lv_aload_n hx hb dX0_isRule_5 rfl (lv_at hl 0 rfl) ?_
    refine gx_f9 X hP dX0_isRule_6 ?_
    refine lv_icmp_ge (tgt := 16) hx hb dX0_isRule_9 (by decide) (fun c2 => ?_) (fun c2 => ?_)
    · refine nr_iconst (v := 0) hx hb dX0_isRule_16 (by decide +kernel) ?_
      exact hret (nI 0) _ _ dX0_isRule_17 (by decide +kernel) (by rw [show isR (gCn G) a = false from decide_eq_false (fun z => i32_le c2 z.2)]; rfl)
    · refine nr_iconst (v := 1) hx hb dX0_isRule_12 (by decide +kernel) ?_
      refine lv_goto (tgt := 17) hx hb dX0_isRule_13 (by decide) ?_
      exact hret (nI 1) _ _ dX0_isRule_17 (by decide +kernel) (by rw [show isR (gCn G) a = true from decide_eq_true ⟨i32_nlt c1, i32_nle c2⟩]; rfl)
set_option maxHeartbeats 4000000 in
set_option maxRecDepth 100000 in
theorem mX_isStretch (l : Launch) (D : va_G) (h : Nat → Nat) (ca : Nat → ClassId) (A : Nat → Prop) (G : GG) (E : EE) (a b : Int32) : Met l yX0_isStretch (ws_ yX0_isStretch cX0_isStretch 3 (some .boolean)) ({ frames := 0, cells := 0, slots := 0, locals := 0 }) (PX D h ca A G E [.int a, .int b]) (vp_Si (fun r => r = nI (isT (gSi G) a b).toNat)) 0 0 (fun _ => False) := by
  refine gx_entS (by decide) rfl (Nat.le_of_ble_eq_true rfl) ?_
  intro p e s m below meth c R Q hRf hRl X hret ls hP hS hl
  have hx := X.1.1
  have hb := X.1.2.1
  generalize hav : ([.ref (h 0), .int a, .int b] : List Value).toArray = av at X hret ⊢
  have hl : lv_has ls 3 [(0, .ref (h 0)), (1, .int a), (2, .int b)] := hl
  refine lv_iload_n hx hb dX0_isStretch_0 rfl (lv_at hl 1 rfl) ?_
  refine lv_if_lt (tgt := 21) hx hb dX0_isStretch_1 (by decide) (fun c1 => ?_) (fun c1 => ?_)
  · refine nr_iconst (v := 0) hx hb dX0_isStretch_21 (by decide +kernel) ?_
    exact hret (nI 0) _ _ dX0_isStretch_22 (by decide +kernel) (by rw [show isT (gSi G) a b = false from decide_eq_false (fun z => i32_lt c1 z.1)]; rfl)
  · refine lv_iload_n hx hb dX0_isStretch_4 rfl (lv_at hl 1 rfl) ?_
    refine lv_iload_n hx hb dX0_isStretch_5 rfl (lv_at hl 2 rfl) ?_
    refine lv_icmp_gt (tgt := 21) hx hb dX0_isStretch_6 (by decide) (fun c2 => ?_) (fun c2 => ?_)
    · refine nr_iconst (v := 0) hx hb dX0_isStretch_21 (by decide +kernel) ?_
      exact hret (nI 0) _ _ dX0_isStretch_22 (by decide +kernel) (by rw [show isT (gSi G) a b = false from decide_eq_false (fun z => i32_lt c2 z.2.1)]; rfl)
    · refine lv_iload_n hx hb dX0_isStretch_9 rfl (lv_at hl 2 rfl) ?_
      refine lv_aload_n hx hb dX0_isStretch_10 rfl (lv_at hl 0 rfl) ?_
      refine gx_f10 X hP dX0_isStretch_11 ?_
      refine lv_icmp_gt (tgt := 21) hx hb dX0_isStretch_14 (by decide) (fun c3 => ?_) (fun c3 => ?_)
      · refine nr_iconst (v := 0) hx hb dX0_isStretch_21 (by decide +kernel) ?_
        exact hret (nI 0) _ _ dX0_isStretch_22 (by decide +kernel) (by rw [show isT (gSi G) a b = false from decide_eq_false (fun z => i32_lt c3 z.2.2)]; rfl)
      · refine nr_iconst (v := 1) hx hb dX0_isStretch_17 (by decide +kernel) ?_
        refine lv_goto (tgt := 22) hx hb dX0_isStretch_18 (by decide) ?_
        exact hret (nI 1) _ _ dX0_isStretch_22 (by decide +kernel) (by rw [show isT (gSi G) a b = true from decide_eq_true ⟨i32_nlt c1, i32_nlt c2, i32_nlt c3⟩]; rfl)
set_option maxHeartbeats 4000000 in
set_option maxRecDepth 100000 in
theorem mX_rowSize (l : Launch) (b : Int32) : Met l yX0_rowSize (ws_ yX0_rowSize cX0_rowSize 3 (some .int)) ({ frames := 0, cells := 0, slots := 0, locals := 0 }) (fun v _ => v = ([.int b] : List Value).toArray) (vp_Si (fun r => r = if isW b = true then nI (dsz b.toNatClampNeg) else -1)) 0 0 (fun _ => False) := by
  refine gx_ents (by decide) rfl (Nat.le_of_ble_eq_true rfl) ?_
  intro p e s m below meth c R Q hRf hRl X hret ls hl
  have hx := X.1
  have hb := X.2.1
  generalize hav : ([.int b] : List Value).toArray = av at X hret ⊢
  have hl : lv_has ls 3 [(0, .int b)] := hl
  refine lv_iload_n hx hb dX0_rowSize_0 rfl (lv_at hl 0 rfl) ?_
  refine lv_if_lt (tgt := 11) hx hb dX0_rowSize_1 (by decide) (fun c1 => ?_) (fun c1 => ?_)
  · refine lv_iconst (v := -1) hx hb dX0_rowSize_11 (by decide +kernel) ?_
    exact hret (-1) _ _ dX0_rowSize_12 rfl (by rw [if_neg (by rw [isW_neg c1]; exact Bool.false_ne_true)])
  · refine lv_iload_n hx hb dX0_rowSize_4 rfl (lv_at hl 0 rfl) ?_
    refine nr_sipush (v := 729) hx hb dX0_rowSize_5 (by decide +kernel) ?_
    refine lv_icmp_lt (tgt := 13) hx hb dX0_rowSize_8 (by decide) (fun c2 => ?_) (fun c2 => ?_)
    · obtain ⟨n, hn, en⟩ := i32_ofl (by omega) (i32_nlt c1) c2
      subst en
      have eW := isW_nI (R := n) (by omega)
      have eC := nI_clamp (n := n) (by omega)
      refine nr_iconst (v := 0) hx hb dX0_rowSize_13 (by decide +kernel) ?_
      refine lv_istore_n (lv' := [(1, .int (nI 0)), (0, .int (nI n))]) hx hb dX0_rowSize_14 rfl hl (by decide) rfl (fun ls hl => ?_)
      refine lv_iload_n hx hb dX0_rowSize_15 rfl (lv_at hl 1 rfl) ?_
      refine lv_istore_n (lv' := [(2, .int (nI n)), (1, .int (nI 0)), (0, .int (nI n))]) hx hb dX0_rowSize_16 rfl hl (by decide) rfl (fun ls hl => ?_)
      refine lv_iload_n hx hb dX0_rowSize_17 rfl (lv_at hl 0 rfl) ?_
      refine nr_if_le (tgt := 41) hx hb dX0_rowSize_18 (by decide) (by omega) (fun m0 => ?_) (fun m0 => ?_)
      · refine lv_iload_n hx hb dX0_rowSize_41 rfl (lv_at hl 1 rfl) ?_
        have eo : okR n = true := decide_eq_true (by omega)
        have ed : dsz n = 0 := dsz_a (by omega)
        exact hret _ _ _ dX0_rowSize_42 rfl (by rw [eW, if_pos eo, eC, ed])
      · refine lv_iload_n hx hb dX0_rowSize_21 rfl (lv_at hl 0 rfl) ?_
        refine nr_bipush (v := 9) hx hb dX0_rowSize_22 (by decide +kernel) ?_
        refine nr_irem hx hb dX0_rowSize_24 (by omega) (by omega) (by omega) ?_
        refine nr_if_ne (tgt := 30) hx hb dX0_rowSize_25 (by decide) (by omega) (fun v0 => ?_) (fun v0 => ?_)
        · refine lv_iinc (v := (nI (0 + 1))) (lv' := [(1, .int (nI (0 + 1))), (2, .int (nI n)), (0, .int (nI n))]) hx hb dX0_rowSize_30 hl (k := 1) rfl (nI_i1 _) (by decide) rfl (fun ls hl => ?_)
          refine lv_iload_n hx hb dX0_rowSize_33 rfl (lv_at hl 1 rfl) ?_
          refine nr_bipush (v := 9) hx hb dX0_rowSize_34 (by decide +kernel) ?_
          refine nr_idiv hx hb dX0_rowSize_36 (by omega) (by omega) (by omega) ?_
          refine lv_istore_n (lv' := [(2, .int (nI (n / 9))), (1, .int (nI (0 + 1))), (0, .int (nI n))]) hx hb dX0_rowSize_37 rfl hl (by decide) rfl (fun ls hl => ?_)
          refine lv_goto (tgt := 17) hx hb dX0_rowSize_38 (by decide) ?_
          refine lv_iload_n hx hb dX0_rowSize_17 rfl (lv_at hl 0 rfl) ?_
          refine nr_if_le (tgt := 41) hx hb dX0_rowSize_18 (by decide) (by omega) (fun m1 => ?_) (fun m1 => ?_)
          · refine lv_iload_n hx hb dX0_rowSize_41 rfl (lv_at hl 1 rfl) ?_
            have eo : okR n = true := decide_eq_true (by omega)
            have ed : dsz n = 0 + 1 := dsz_b (by omega) (by omega)
            exact hret _ _ _ dX0_rowSize_42 rfl (by rw [eW, if_pos eo, eC, ed])
          · refine lv_iload_n hx hb dX0_rowSize_21 rfl (lv_at hl 0 rfl) ?_
            refine nr_bipush (v := 9) hx hb dX0_rowSize_22 (by decide +kernel) ?_
            refine nr_irem hx hb dX0_rowSize_24 (by omega) (by omega) (by omega) ?_
            refine nr_if_ne (tgt := 30) hx hb dX0_rowSize_25 (by decide) (by omega) (fun v1 => ?_) (fun v1 => ?_)
            · refine lv_iinc (v := (nI (0 + 1 + 1))) (lv' := [(1, .int (nI (0 + 1 + 1))), (2, .int (nI (n / 9))), (0, .int (nI n))]) hx hb dX0_rowSize_30 hl (k := 1) rfl (nI_i1 _) (by decide) rfl (fun ls hl => ?_)
              refine lv_iload_n hx hb dX0_rowSize_33 rfl (lv_at hl 1 rfl) ?_
              refine nr_bipush (v := 9) hx hb dX0_rowSize_34 (by decide +kernel) ?_
              refine nr_idiv hx hb dX0_rowSize_36 (by omega) (by omega) (by omega) ?_
              refine lv_istore_n (lv' := [(2, .int (nI ((n / 9) / 9))), (1, .int (nI (0 + 1 + 1))), (0, .int (nI n))]) hx hb dX0_rowSize_37 rfl hl (by decide) rfl (fun ls hl => ?_)
              refine lv_goto (tgt := 17) hx hb dX0_rowSize_38 (by decide) ?_
              refine lv_iload_n hx hb dX0_rowSize_17 rfl (lv_at hl 0 rfl) ?_
              refine nr_if_le (tgt := 41) hx hb dX0_rowSize_18 (by decide) (by omega) (fun m2 => ?_) (fun m2 => ?_)
              · refine lv_iload_n hx hb dX0_rowSize_41 rfl (lv_at hl 1 rfl) ?_
                have eo : okR n = true := decide_eq_true (by omega)
                have ed : dsz n = 0 + 1 + 1 := dsz_c (by omega) (by omega)
                exact hret _ _ _ dX0_rowSize_42 rfl (by rw [eW, if_pos eo, eC, ed])
              · refine lv_iload_n hx hb dX0_rowSize_21 rfl (lv_at hl 0 rfl) ?_
                refine nr_bipush (v := 9) hx hb dX0_rowSize_22 (by decide +kernel) ?_
                refine nr_irem hx hb dX0_rowSize_24 (by omega) (by omega) (by omega) ?_
                refine nr_if_ne (tgt := 30) hx hb dX0_rowSize_25 (by decide) (by omega) (fun v2 => ?_) (fun v2 => ?_)
                · refine lv_iinc (v := (nI (0 + 1 + 1 + 1))) (lv' := [(1, .int (nI (0 + 1 + 1 + 1))), (2, .int (nI ((n / 9) / 9))), (0, .int (nI n))]) hx hb dX0_rowSize_30 hl (k := 1) rfl (nI_i1 _) (by decide) rfl (fun ls hl => ?_)
                  refine lv_iload_n hx hb dX0_rowSize_33 rfl (lv_at hl 1 rfl) ?_
                  refine nr_bipush (v := 9) hx hb dX0_rowSize_34 (by decide +kernel) ?_
                  refine nr_idiv hx hb dX0_rowSize_36 (by omega) (by omega) (by omega) ?_
                  refine lv_istore_n (lv' := [(2, .int (nI (((n / 9) / 9) / 9))), (1, .int (nI (0 + 1 + 1 + 1))), (0, .int (nI n))]) hx hb dX0_rowSize_37 rfl hl (by decide) rfl (fun ls hl => ?_)
                  refine lv_goto (tgt := 17) hx hb dX0_rowSize_38 (by decide) ?_
                  refine lv_iload_n hx hb dX0_rowSize_17 rfl (lv_at hl 0 rfl) ?_
                  refine nr_if_le (tgt := 41) hx hb dX0_rowSize_18 (by decide) (by omega) (fun m3 => ?_) (fun m3 => ?_)
                  · refine lv_iload_n hx hb dX0_rowSize_41 rfl (lv_at hl 1 rfl) ?_
                    have eo : okR n = true := decide_eq_true (by omega)
                    have ed : dsz n = 0 + 1 + 1 + 1 := dsz_d (by omega)
                    exact hret _ _ _ dX0_rowSize_42 rfl (by rw [eW, if_pos eo, eC, ed])
                  · exact absurd m3 (by omega)
                · refine lv_iconst (v := -1) hx hb dX0_rowSize_28 (by decide +kernel) ?_
                  exact hret (-1) _ _ dX0_rowSize_29 rfl (by rw [eW, if_neg (by rw [show okR n = false from decide_eq_false (by omega)]; exact Bool.false_ne_true)])
            · refine lv_iconst (v := -1) hx hb dX0_rowSize_28 (by decide +kernel) ?_
              exact hret (-1) _ _ dX0_rowSize_29 rfl (by rw [eW, if_neg (by rw [show okR n = false from decide_eq_false (by omega)]; exact Bool.false_ne_true)])
        · refine lv_iconst (v := -1) hx hb dX0_rowSize_28 (by decide +kernel) ?_
          exact hret (-1) _ _ dX0_rowSize_29 rfl (by rw [eW, if_neg (by rw [show okR n = false from decide_eq_false (by omega)]; exact Bool.false_ne_true)])
    · refine lv_iconst (v := -1) hx hb dX0_rowSize_11 (by decide +kernel) ?_
      exact hret (-1) _ _ dX0_rowSize_12 rfl (by rw [if_neg (by rw [isW_big (by rw [Int32.lt_iff_toInt_lt]; rw [Int32.lt_iff_toInt_lt] at c2; rw [nI_toInt (n := 729) (by omega)] at c2; rw [nI_toInt (n := 728) (by omega)]; omega)]; exact Bool.false_ne_true)])
set_option maxHeartbeats 4000000 in
set_option maxRecDepth 100000 in
theorem mX_rule (l : Launch) (D : va_G) (h : Nat → Nat) (ca : Nat → ClassId) (A : Nat → Prop) (G : GG) (E : EE) (a b : Int32) (hG : okG G) : Met l yX0_rule (ws_ yX0_rule cX0_rule 6 (some .int)) ({ frames := 1, cells := 0, slots := 0, locals := 22 }) (PX D h ca A G E [.int a, .int b]) (va_Qi (fun r u => r = ruleA a b (gCn G) ∧ u = (ruleG a b G, E)) (BX D h ca) A) 0 0 A := by
  refine gx_enti (by decide) rfl (Nat.le_of_ble_eq_true rfl) ?_
  intro p e s m below meth c R Q hRf hRl X hret H locs ls hP hS hl
  have hx := X.1.1
  have hb := X.1.2.1
  generalize hav : ([.ref (h 0), .int a, .int b] : List Value).toArray = av at X hret ⊢
  have hl : lv_has ls 6 [(0, .ref (h 0)), (1, .int a), (2, .int b)] := hl
  have g1 := hG.1
  refine lv_iload_n hx hb dX0_rule_0 rfl (lv_at hl 1 rfl) ?_
  refine gx_calls X.1 (rest := []) (As := [.int a]) (n := 1) (mX_isName l a) (lw_S q76 q77 q23 q78) (by decide +kernel) ⟨by omega, by omega⟩ rfl hl.1 rfl (Nat.le_of_ble_eq_true rfl) dX0_rule_1 (fun r1 hr1 => ?_)
  subst hr1
  refine nr_if_ne_b (tgt := 9) hx hb dX0_rule_4 (by decide) (fun c1 => ?_) (fun c1 => ?_)
  · refine lv_iload_n hx hb dX0_rule_9 rfl (lv_at hl 2 rfl) ?_
    refine gx_calls X.1 (rest := []) (As := [.int b]) (n := 1) (mX_rowSize l b) (lw_S q79 q80 q23 q81) (by decide +kernel) ⟨by omega, by omega⟩ rfl hl.1 rfl (Nat.le_of_ble_eq_true rfl) dX0_rule_10 (fun r2 hr2 => ?_)
    cases c2 : isW b
    · have hr2 : r2 = -1 := by rw [hr2, if_neg (by rw [c2]; exact Bool.false_ne_true)]
      subst hr2
      refine lv_istore_n (lv' := [(3, .int (-1)), (0, .ref (h 0)), (1, .int a), (2, .int b)]) hx hb dX0_rule_13 rfl hl (by decide) rfl (fun ls hl => ?_)
      refine lv_iload_n hx hb dX0_rule_14 rfl (lv_at hl 0 rfl) ?_
      refine lv_if_ge (tgt := 21) hx hb dX0_rule_15 (by decide) (fun c3 => ?_) (fun c3 => ?_)
      · exact absurd c3 (by decide +kernel)
      · refine lv_bipush (v := -2) hx hb dX0_rule_18 (by decide +kernel) ?_
        exact hret _ (G, E) _ _ _ _ dX0_rule_20 rfl hP hS ⟨by rw [ruleA, if_pos c1, if_neg (by rw [c2]; exact Bool.false_ne_true)], by rw [ruleG, if_pos c1, if_neg (by rw [c2]; exact Bool.false_ne_true)]⟩
    · have hr2 : r2 = nI (dsz b.toNatClampNeg) := by rw [hr2, if_pos c2]
      subst hr2
      obtain ⟨n, hn, en⟩ := isN_of c1
      obtain ⟨R0, hR0, hR1, eR⟩ := isW_of c2
      subst en
      subst eR
      rw [nI_clamp (by omega)]
      have hz := dsz_le R0
      have eCa := nI_clamp (n := n) (by omega)
      have eCb := nI_clamp (n := R0) (by omega)
      refine lv_istore_n (lv' := [(3, .int (nI (dsz R0))), (0, .ref (h 0)), (1, .int (nI n)), (2, .int (nI R0))]) hx hb dX0_rule_13 rfl hl (by decide) rfl (fun ls hl => ?_)
      refine lv_iload_n hx hb dX0_rule_14 rfl (lv_at hl 0 rfl) ?_
      refine nr_if_ge (tgt := 21) hx hb dX0_rule_15 (by decide) (by omega) ?_
      refine lv_aload_n hx hb dX0_rule_21 rfl (lv_at hl 1 rfl) ?_
      refine gx_f9 X hP dX0_rule_22 ?_
      refine nr_bipush (v := 12) hx hb dX0_rule_25 (by decide +kernel) ?_
      refine nr_icmp_ne (tgt := 33) hx hb dX0_rule_27 (by decide) (by omega) (by omega) (fun c3 => ?_) (fun c3 => ?_)
      · obtain ⟨G0, hG0⟩ : ∃ G0, G0 = sGSz (sGLf G (va_up (gLf G) (gCn G) n)) (va_up (gSz G) (gCn G) (dsz R0)) := ⟨_, rfl⟩
        refine lv_aload_n hx hb dX0_rule_33 rfl (lv_at hl 1 rfl) ?_
        refine gx_f0 X hP dX0_rule_34 ?_
        refine lv_aload_n hx hb dX0_rule_37 rfl (lv_at hl 1 rfl) ?_
        refine gx_f9 X hP dX0_rule_38 ?_
        refine lv_iload_n hx hb dX0_rule_41 rfl (lv_at hl 2 rfl) ?_
        refine gx_s1 X hP hS (by omega) dX0_rule_42 (fun H locs hP hS => ?_)
        refine lv_aload_n hx hb dX0_rule_43 rfl (lv_at hl 1 rfl) ?_
        refine gx_f2 X hP dX0_rule_44 ?_
        refine lv_aload_n hx hb dX0_rule_47 rfl (lv_at hl 1 rfl) ?_
        refine gx_f9 X hP dX0_rule_48 ?_
        refine nr_top (y := (nI (gCn G))) rfl ?_
        refine lv_iload_n hx hb dX0_rule_51 rfl (lv_at hl 0 rfl) ?_
        refine gx_s3 X hP hS (by omega) dX0_rule_52 (fun H locs hP hS => ?_)
        refine lv_iload_n hx hb dX0_rule_53 rfl (lv_at hl 3 rfl) ?_
        refine lv_istore (lv' := [(4, .int (nI R0)), (3, .int (nI (dsz R0))), (0, .ref (h 0)), (1, .int (nI n)), (2, .int (nI R0))]) hx hb dX0_rule_54 hl (by decide) rfl (fun ls hl => ?_)
        refine lv_iload_n hx hb dX0_rule_56 rfl (lv_at hl 1 rfl) ?_
        refine nr_iconst (v := 1) hx hb dX0_rule_57 (by decide +kernel) ?_
        refine lv_isub hx hb dX0_rule_58 ?_
        refine lv_istore (lv' := [(5, .int (nI (dsz R0) - nI 1)), (4, .int (nI R0)), (3, .int (nI (dsz R0))), (0, .ref (h 0)), (1, .int (nI n)), (2, .int (nI R0))]) hx hb dX0_rule_59 hl (by decide) rfl (fun ls hl => ?_)
        have hP : va_P D vwCl (wX h ca (sGRt G0 (gRt G)) E) H := by rw [hG0]; exact hP
        have eG0 : ∀ f, gCn (sGRt G0 f) = gCn G := fun f => by rw [hG0]; rfl
        have lp : ∀ j : Nat, ∀ (rest : Nat) (f : Nat → Nat), j ≤ 3 → rest < 729 → dgok rest j → rwF f (3 * gCn G) rest j = rwF (gRt G) (3 * gCn G) R0 (dsz R0) → ∀ (H : Heap) (locs : List Loc) (ls : Array Slot), va_P D vwCl (wX h ca (sGRt G0 f) E) H → va_S A s.heap H locs → lv_has ls 6 [(0, .ref (h 0)), (1, .int (nI n)), (2, .int (nI R0)), (3, .int (nI (dsz R0))), (4, .int (nI rest)), (5, .int (nI j - nI 1))] → W p l e R s m av below meth c H locs 0 0 Q (F0 m 61 ls []) := by
          refine gp_dn (fun j ih => ?_)
          intro rest f hj hre hdg hfd H locs ls hP hS hl
          refine lv_iload hx hb dX0_rule_61 (lv_at hl 5 rfl) ?_
          refine nr_if_lt_m (tgt := 100) hx hb dX0_rule_63 (by decide) (by omega) (fun c4 => ?_) (fun c4 => ?_)
          · subst c4
            have hf : f = rwF (gRt G) (3 * gCn G) R0 (dsz R0) := hfd
            subst hf
            rw [hG0] at hP
            have hl : lv_has ls 6 [(0, .ref (h 0)), (1, .int (nI n)), (2, .int (nI R0)), (3, .int (nI (dsz R0))), (4, .int (nI rest))] := lv_sub hl [0, 1, 2, 3, 4] rfl
            refine lv_aload_n hx hb dX0_rule_100 rfl (lv_at hl 0 rfl) ?_
            refine lv_dup hx hb dX0_rule_101 rfl ?_
            refine gx_f9 X hP dX0_rule_102 ?_
            refine nr_top (y := (nI (gCn G))) rfl ?_
            refine nr_iconst (v := 1) hx hb dX0_rule_105 (by decide +kernel) ?_
            refine nr_iadd hx hb dX0_rule_106 ?_
            refine gx_p9 X hP hS dX0_rule_107 (fun H locs hP hS => ?_)
            refine lv_aload_n hx hb dX0_rule_110 rfl (lv_at hl 0 rfl) ?_
            refine gx_f9 X hP dX0_rule_111 ?_
            refine nr_top (y := (nI (gCn G + 1))) rfl ?_
            refine nr_iconst (v := 1) hx hb dX0_rule_114 (by decide +kernel) ?_
            refine nr_isub hx hb dX0_rule_115 (by omega) ?_
            exact hret _ (ruleX G n R0, E) _ _ _ _ dX0_rule_116 rfl hP hS ⟨by rw [ruleA, if_pos c1, if_pos c2, if_neg c3]; rfl, by rw [ruleG, if_pos c1, if_pos c2, if_neg c3, eCa, eCb]⟩
          · obtain ⟨i, ei⟩ : ∃ i, j = i + 1 := ⟨j - 1, by omega⟩
            subst ei
            obtain ⟨hd1, hd2⟩ := hdg
            refine lv_aload_n hx hb dX0_rule_66 rfl (lv_at hl 0 rfl) ?_
            refine gx_f1 X hP dX0_rule_67 ?_
            refine nr_iconst (v := 3) hx hb dX0_rule_70 (by decide +kernel) ?_
            refine lv_aload_n hx hb dX0_rule_71 rfl (lv_at hl 0 rfl) ?_
            refine gx_f9 X hP dX0_rule_72 ?_
            refine nr_top (y := (nI (gCn G))) (by rw [eG0]) ?_
            refine nr_imul hx hb dX0_rule_75 ?_
            refine lv_iload hx hb dX0_rule_76 (lv_at hl 5 rfl) ?_
            refine nr_top (y := (nI i)) (nI_m1 i) ?_
            refine nr_iadd hx hb dX0_rule_78 ?_
            refine lv_iload hx hb dX0_rule_79 (lv_at hl 4 rfl) ?_
            refine nr_bipush (v := 9) hx hb dX0_rule_81 (by decide +kernel) ?_
            refine nr_irem hx hb dX0_rule_83 (by omega) (by omega) (by omega) ?_
            refine nr_iconst (v := 1) hx hb dX0_rule_84 (by decide +kernel) ?_
            refine nr_isub hx hb dX0_rule_85 (by omega) ?_
            refine gx_s2 X hP hS (by omega) dX0_rule_86 (fun H locs hP hS => ?_)
            refine lv_iload hx hb dX0_rule_87 (lv_at hl 4 rfl) ?_
            refine nr_bipush (v := 9) hx hb dX0_rule_89 (by decide +kernel) ?_
            refine nr_idiv hx hb dX0_rule_91 (by omega) (by omega) (by omega) ?_
            refine lv_istore (lv' := [(4, .int (nI (rest / 9))), (0, .ref (h 0)), (1, .int (nI n)), (2, .int (nI R0)), (3, .int (nI (dsz R0))), (5, .int (nI (i + 1) - nI 1))]) hx hb dX0_rule_92 hl (by decide) rfl (fun ls hl => ?_)
            have hP : va_P D vwCl (wX h ca (sGRt G0 (va_up f (3 * gCn G + i) (rest % 9 - 1))) E) H := hP
            refine lv_iinc (v := (nI i - nI 1)) (lv' := [(5, .int (nI i - nI 1)), (4, .int (nI (rest / 9))), (0, .ref (h 0)), (1, .int (nI n)), (2, .int (nI R0)), (3, .int (nI (dsz R0)))]) hx hb dX0_rule_94 hl (k := 5) rfl (nI_id _) (by decide) rfl (fun ls hl => ?_)
            refine lv_goto (tgt := 61) hx hb dX0_rule_97 (by decide) ?_
            exact ih i rfl (rest / 9) (va_up f (3 * gCn G + i) (rest % 9 - 1)) (by omega) (by omega) hd2 hfd _ _ _ hP hS (lv_sub hl [2, 3, 4, 5, 1, 0] rfl)
        exact lp (dsz R0) R0 (gRt G) hz hR1 (dgok_of hR0) rfl _ _ _ hP hS (lv_sub hl [3, 4, 5, 2, 1, 0] rfl)
      · refine lv_bipush (v := -3) hx hb dX0_rule_30 (by decide +kernel) ?_
        exact hret _ (G, E) _ _ _ _ dX0_rule_32 rfl hP hS ⟨by rw [ruleA, if_pos c1, if_pos c2, if_pos c3], by rw [ruleG, if_pos c1, if_pos c2, if_pos c3]⟩
  · refine lv_iconst (v := -1) hx hb dX0_rule_7 (by decide +kernel) ?_
    exact hret _ (G, E) _ _ _ _ dX0_rule_8 rfl hP hS ⟨by rw [ruleA, if_neg (by rw [c1]; exact Bool.false_ne_true)], by rw [ruleG, if_neg (by rw [c1]; exact Bool.false_ne_true)]⟩
end
section
/-! drop, clear, rules, push, pop, write, length -/
set_option maxHeartbeats 4000000 in
set_option maxRecDepth 100000 in
theorem mX_drop (l : Launch) (D : va_G) (h : Nat → Nat) (ca : Nat → ClassId) (A : Nat → Prop) (G : GG) (E : EE) (a : Int32) (hG : okG G) : Met l yX0_drop (ws_ yX0_drop cX0_drop 4 (some .int)) ({ frames := 1, cells := 0, slots := 0, locals := 21 }) (PX D h ca A G E [.int a]) (va_Qi (fun r u => r = dropA a (gCn G) ∧ u = (dropG a G, E)) (BX D h ca) A) 0 0 A := by
  refine gx_enti (by decide) rfl (Nat.le_of_ble_eq_true rfl) ?_
  intro p e s m below meth c R Q hRf hRl X hret H locs ls hP hS hl
  have hx := X.1.1
  have hb := X.1.2.1
  generalize hav : ([.ref (h 0), .int a] : List Value).toArray = av at X hret ⊢
  have hl : lv_has ls 4 [(0, .ref (h 0)), (1, .int a)] := hl
  have g1 := hG.1
  refine lv_aload_n hx hb dX0_drop_0 rfl (lv_at hl 0 rfl) ?_
  refine lv_iload_n hx hb dX0_drop_1 rfl (lv_at hl 1 rfl) ?_
  refine gx_callS X (rest := []) (As := [.int a]) (n := 1) (mX_isRule l D h ca A G E a) (lw_V q86 q88 qs0 q23 q89) (by decide +kernel) ⟨by omega, by omega⟩ hP hS rfl hl.1 rfl (Nat.le_of_ble_eq_true rfl) dX0_drop_2 (fun r1 hr1 => ?_)
  subst hr1
  refine nr_if_ne_b (tgt := 10) hx hb dX0_drop_5 (by decide) (fun c1 => ?_) (fun c1 => ?_)
  · obtain ⟨r, hr, er⟩ := isR_of g1 c1
    subst er
    have eC := nI_clamp (n := r) (by omega)
    refine lv_iload_n hx hb dX0_drop_10 rfl (lv_at hl 1 rfl) ?_
    refine nr_iconst (v := 1) hx hb dX0_drop_11 (by decide +kernel) ?_
    refine nr_iadd hx hb dX0_drop_12 ?_
    refine lv_istore_n (lv' := [(2, .int (nI (r + 1))), (0, .ref (h 0)), (1, .int (nI r))]) hx hb dX0_drop_13 rfl hl (by decide) rfl (fun ls hl => ?_)
    have hP : va_P D vwCl (wX h ca (dropS G r r (3 * r)) E) H := by unfold dropS; rw [shf_0, shf_0, shf_0]; exact hP
    have lp : ∀ q, q ≤ gCn G - 1 → r ≤ q → ∀ (H : Heap) (locs : List Loc) (ls : Array Slot), va_P D vwCl (wX h ca (dropS G r q (3 * q)) E) H → va_S A s.heap H locs → lv_has ls 4 [(0, .ref (h 0)), (1, .int (nI r)), (2, .int (nI (q + 1)))] → W p l e R s m av below meth c H locs 0 0 Q (F0 m 14 ls []) := by
      refine gp_up (fun q hk_q ih => ?_)
      intro hq1 H locs ls hP hS hl
      refine lv_iload_n hx hb dX0_drop_14 rfl (lv_at hl 2 rfl) ?_
      refine lv_aload_n hx hb dX0_drop_15 rfl (lv_at hl 0 rfl) ?_
      refine gx_f9 X hP dX0_drop_16 ?_
      refine nr_top (y := (nI (gCn G))) rfl ?_
      refine nr_icmp_ge (tgt := 91) hx hb dX0_drop_19 (by decide) (by omega) (by omega) (fun c2 => ?_) (fun c2 => ?_)
      · have hq : q = gCn G - 1 := by omega
        rw [hq] at hP
        refine lv_aload_n hx hb dX0_drop_91 rfl (lv_at hl 0 rfl) ?_
        refine lv_dup hx hb dX0_drop_92 rfl ?_
        refine gx_f9 X hP dX0_drop_93 ?_
        refine nr_top (y := (nI (gCn G))) rfl ?_
        refine nr_iconst (v := 1) hx hb dX0_drop_96 (by decide +kernel) ?_
        refine nr_isub hx hb dX0_drop_97 (by omega) ?_
        refine gx_p9 X hP hS dX0_drop_98 (fun H locs hP hS => ?_)
        refine lv_aload_n hx hb dX0_drop_101 rfl (lv_at hl 0 rfl) ?_
        refine gx_f9 X hP dX0_drop_102 ?_
        refine nr_top (y := (nI (gCn G - 1))) rfl ?_
        exact hret _ (dropX G r, E) _ _ _ _ dX0_drop_105 rfl hP hS ⟨by rw [dropA, if_pos c1], by rw [dropG, if_pos c1, eC]⟩
      · refine lv_aload_n hx hb dX0_drop_22 rfl (lv_at hl 0 rfl) ?_
        refine gx_f0 X hP dX0_drop_23 ?_
        refine lv_iload_n hx hb dX0_drop_26 rfl (lv_at hl 2 rfl) ?_
        refine nr_iconst (v := 1) hx hb dX0_drop_27 (by decide +kernel) ?_
        refine nr_isub hx hb dX0_drop_28 (by omega) ?_
        refine nr_top (y := (nI q)) rfl ?_
        refine lv_aload_n hx hb dX0_drop_29 rfl (lv_at hl 0 rfl) ?_
        refine gx_f0 X hP dX0_drop_30 ?_
        refine lv_iload_n hx hb dX0_drop_33 rfl (lv_at hl 2 rfl) ?_
        refine gx_l1 X hP (by omega) dX0_drop_34 ?_
        refine gx_s1 X hP hS (by omega) dX0_drop_35 (fun H locs hP hS => ?_)
        refine lv_aload_n hx hb dX0_drop_36 rfl (lv_at hl 0 rfl) ?_
        refine gx_f2 X hP dX0_drop_37 ?_
        refine lv_iload_n hx hb dX0_drop_40 rfl (lv_at hl 2 rfl) ?_
        refine nr_iconst (v := 1) hx hb dX0_drop_41 (by decide +kernel) ?_
        refine nr_isub hx hb dX0_drop_42 (by omega) ?_
        refine nr_top (y := (nI q)) rfl ?_
        refine lv_aload_n hx hb dX0_drop_43 rfl (lv_at hl 0 rfl) ?_
        refine gx_f2 X hP dX0_drop_44 ?_
        refine lv_iload_n hx hb dX0_drop_47 rfl (lv_at hl 2 rfl) ?_
        refine gx_l3 X hP (by omega) dX0_drop_48 ?_
        refine gx_s3 X hP hS (by omega) dX0_drop_49 (fun H locs hP hS => ?_)
        refine nr_iconst (v := 0) hx hb dX0_drop_50 (by decide +kernel) ?_
        refine lv_istore_n (lv' := [(3, .int (nI 0)), (0, .ref (h 0)), (1, .int (nI r)), (2, .int (nI (q + 1)))]) hx hb dX0_drop_51 rfl hl (by decide) rfl (fun ls hl => ?_)
        have hlq : gLf (dropS G r q (3 * q)) = shf (gLf G) r q 1 := rfl
        have hP : va_P D vwCl (wX h ca (dropS G r (q + 1) (3 * q + 0)) E) H := by unfold dropS; rw [← shf_s hq1, ← shf_s (f := gSz G) hq1]; exact hP
        have lp2 : ∀ k, k ≤ 3 → ∀ (H : Heap) (locs : List Loc) (ls : Array Slot), va_P D vwCl (wX h ca (dropS G r (q + 1) (3 * q + k)) E) H → va_S A s.heap H locs → lv_has ls 4 [(0, .ref (h 0)), (1, .int (nI r)), (2, .int (nI (q + 1))), (3, .int (nI k))] → W p l e R s m av below meth c H locs 0 0 Q (F0 m 52 ls []) := by
          refine gp_up (fun k hk_k ih2 => ?_)
          intro H locs ls hP hS hl
          refine lv_iload_n hx hb dX0_drop_52 rfl (lv_at hl 3 rfl) ?_
          refine nr_iconst (v := 3) hx hb dX0_drop_53 (by decide +kernel) ?_
          refine nr_icmp_ge (tgt := 85) hx hb dX0_drop_54 (by decide) (by omega) (by omega) (fun c3 => ?_) (fun c3 => ?_)
          · have hk : k = 3 := by omega
            rw [hk] at hP
            have hP : va_P D vwCl (wX h ca (dropS G r (q + 1) (3 * (q + 1))) E) H := hP
            refine lv_iinc (v := (nI (q + 1 + 1))) (lv' := [(2, .int (nI (q + 1 + 1))), (0, .ref (h 0)), (1, .int (nI r)), (3, .int (nI k))]) hx hb dX0_drop_85 hl (k := 2) rfl (nI_i1 _) (by decide) rfl (fun ls hl => ?_)
            refine lv_goto (tgt := 14) hx hb dX0_drop_88 (by decide) ?_
            exact ih (by omega) (by omega) _ _ _ hP hS (lv_sub hl [1, 2, 0] rfl)
          · refine lv_aload_n hx hb dX0_drop_57 rfl (lv_at hl 0 rfl) ?_
            refine gx_f1 X hP dX0_drop_58 ?_
            refine nr_iconst (v := 3) hx hb dX0_drop_61 (by decide +kernel) ?_
            refine lv_iload_n hx hb dX0_drop_62 rfl (lv_at hl 2 rfl) ?_
            refine nr_imul hx hb dX0_drop_63 ?_
            refine nr_iconst (v := 3) hx hb dX0_drop_64 (by decide +kernel) ?_
            refine nr_isub hx hb dX0_drop_65 (by omega) ?_
            refine lv_iload_n hx hb dX0_drop_66 rfl (lv_at hl 3 rfl) ?_
            refine nr_iadd hx hb dX0_drop_67 ?_
            refine nr_top (y := (nI (3 * q + k))) (by rw [show 3 * (q + 1) - 3 + k = 3 * q + k by omega]) ?_
            refine lv_aload_n hx hb dX0_drop_68 rfl (lv_at hl 0 rfl) ?_
            refine gx_f1 X hP dX0_drop_69 ?_
            refine nr_iconst (v := 3) hx hb dX0_drop_72 (by decide +kernel) ?_
            refine lv_iload_n hx hb dX0_drop_73 rfl (lv_at hl 2 rfl) ?_
            refine nr_imul hx hb dX0_drop_74 ?_
            refine lv_iload_n hx hb dX0_drop_75 rfl (lv_at hl 3 rfl) ?_
            refine nr_iadd hx hb dX0_drop_76 ?_
            refine nr_top (y := (nI (3 * q + k + 3))) (by rw [show 3 * (q + 1) + k = 3 * q + k + 3 by omega]) ?_
            refine gx_l2 X hP (by omega) dX0_drop_77 ?_
            refine gx_s2 X hP hS (by omega) dX0_drop_78 (fun H locs hP hS => ?_)
            have hP : va_P D vwCl (wX h ca (dropS G r (q + 1) (3 * q + (k + 1))) E) H := by unfold dropS; rw [show 3 * q + (k + 1) = 3 * q + k + 1 by omega, ← shf_s (f := gRt G) (hi := 3 * q + k) (by omega)]; exact hP
            refine lv_iinc (v := (nI (k + 1))) (lv' := [(3, .int (nI (k + 1))), (0, .ref (h 0)), (1, .int (nI r)), (2, .int (nI (q + 1)))]) hx hb dX0_drop_79 hl (k := 3) rfl (nI_i1 _) (by decide) rfl (fun ls hl => ?_)
            refine lv_goto (tgt := 52) hx hb dX0_drop_82 (by decide) ?_
            exact ih2 c3 _ _ _ hP hS (lv_sub hl [1, 2, 3, 0] rfl)
        exact lp2 0 (Nat.zero_le _) _ _ _ hP hS (lv_sub hl [1, 2, 3, 0] rfl)
    exact lp r (by omega) (Nat.le_refl _) _ _ _ hP hS (lv_sub hl [1, 2, 0] rfl)
  · refine lv_iconst (v := -1) hx hb dX0_drop_8 (by decide +kernel) ?_
    exact hret _ (G, E) _ _ _ _ dX0_drop_9 rfl hP hS ⟨by rw [dropA, if_neg (by rw [c1]; exact Bool.false_ne_true)], by rw [dropG, if_neg (by rw [c1]; exact Bool.false_ne_true)]⟩
set_option maxHeartbeats 4000000 in
set_option maxRecDepth 100000 in
theorem mX_clear (l : Launch) (D : va_G) (h : Nat → Nat) (ca : Nat → ClassId) (A : Nat → Prop) (G : GG) (E : EE)  : Met l yX0_clear (ws_ yX0_clear cX0_clear 2 (some .int)) ({ frames := 0, cells := 0, slots := 0, locals := 0 }) (PX D h ca A G E []) (va_Qi (fun r u => r = nI (gCn G) ∧ u = (sGCn G 0, E)) (BX D h ca) A) 0 0 A := by
  refine gx_enti (by decide) rfl (Nat.le_of_ble_eq_true rfl) ?_
  intro p e s m below meth c R Q hRf hRl X hret H locs ls hP hS hl
  have hx := X.1.1
  have hb := X.1.2.1
  generalize hav : ([.ref (h 0)] : List Value).toArray = av at X hret ⊢
  have hl : lv_has ls 2 [(0, .ref (h 0))] := hl
  refine lv_aload_n hx hb dX0_clear_0 rfl (lv_at hl 0 rfl) ?_
  refine gx_f9 X hP dX0_clear_1 ?_
  refine lv_istore_n (lv' := [(1, .int (nI (gCn G))), (0, .ref (h 0))]) hx hb dX0_clear_4 rfl hl (by decide) rfl (fun ls hl => ?_)
  refine lv_aload_n hx hb dX0_clear_5 rfl (lv_at hl 1 rfl) ?_
  refine nr_iconst (v := 0) hx hb dX0_clear_6 (by decide +kernel) ?_
  refine gx_p9 X hP hS dX0_clear_7 (fun H locs hP hS => ?_)
  refine lv_iload_n hx hb dX0_clear_10 rfl (lv_at hl 0 rfl) ?_
  exact hret _ (sGCn G 0, E) _ _ _ _ dX0_clear_11 rfl hP hS ⟨rfl, rfl⟩
set_option maxHeartbeats 4000000 in
set_option maxRecDepth 100000 in
theorem mX_rules (l : Launch) (D : va_G) (h : Nat → Nat) (ca : Nat → ClassId) (A : Nat → Prop) (G : GG) (E : EE)  : Met l yX0_rules (ws_ yX0_rules cX0_rules 1 (some .int)) ({ frames := 0, cells := 0, slots := 0, locals := 0 }) (PX D h ca A G E []) (vp_Si (fun r => r = nI (gCn G))) 0 0 (fun _ => False) := by
  refine gx_entS (by decide) rfl (Nat.le_of_ble_eq_true rfl) ?_
  intro p e s m below meth c R Q hRf hRl X hret ls hP hS hl
  have hx := X.1.1
  have hb := X.1.2.1
  generalize hav : ([.ref (h 0)] : List Value).toArray = av at X hret ⊢
  have hl : lv_has ls 1 [(0, .ref (h 0))] := hl
  refine lv_aload_n hx hb dX0_rules_0 rfl (lv_at hl 0 rfl) ?_
  refine gx_f9 X hP dX0_rules_1 ?_
  exact hret _ _ _ dX0_rules_4 rfl rfl
set_option maxHeartbeats 4000000 in
set_option maxRecDepth 100000 in
theorem mX_length (l : Launch) (D : va_G) (h : Nat → Nat) (ca : Nat → ClassId) (A : Nat → Prop) (G : GG) (E : EE)  : Met l yX0_length (ws_ yX0_length cX0_length 1 (some .int)) ({ frames := 0, cells := 0, slots := 0, locals := 0 }) (PX D h ca A G E []) (vp_Si (fun r => r = nI (gSi G))) 0 0 (fun _ => False) := by
  refine gx_entS (by decide) rfl (Nat.le_of_ble_eq_true rfl) ?_
  intro p e s m below meth c R Q hRf hRl X hret ls hP hS hl
  have hx := X.1.1
  have hb := X.1.2.1
  generalize hav : ([.ref (h 0)] : List Value).toArray = av at X hret ⊢
  have hl : lv_has ls 1 [(0, .ref (h 0))] := hl
  refine lv_aload_n hx hb dX0_length_0 rfl (lv_at hl 0 rfl) ?_
  refine gx_f10 X hP dX0_length_1 ?_
  exact hret _ _ _ dX0_length_4 rfl rfl
set_option maxHeartbeats 4000000 in
set_option maxRecDepth 100000 in
theorem mX_push (l : Launch) (D : va_G) (h : Nat → Nat) (ca : Nat → ClassId) (A : Nat → Prop) (G : GG) (E : EE) (a : Int32) (hG : okG G) : Met l yX0_push (ws_ yX0_push cX0_push 2 (some .int)) ({ frames := 0, cells := 0, slots := 0, locals := 0 }) (PX D h ca A G E [.int a]) (va_Qi (fun r u => r = pushA a (gSi G) ∧ u = (pushG a G, E)) (BX D h ca) A) 0 0 A := by
  refine gx_enti (by decide) rfl (Nat.le_of_ble_eq_true rfl) ?_
  intro p e s m below meth c R Q hRf hRl X hret H locs ls hP hS hl
  have hx := X.1.1
  have hb := X.1.2.1
  generalize hav : ([.ref (h 0), .int a] : List Value).toArray = av at X hret ⊢
  have hl : lv_has ls 2 [(0, .ref (h 0)), (1, .int a)] := hl
  have g1 := hG.2.1
  refine lv_iload_n hx hb dX0_push_0 rfl (lv_at hl 1 rfl) ?_
  refine nr_iconst (v := 5) hx hb dX0_push_1 (by decide +kernel) ?_
  refine lv_icmp_lt (tgt := 11) hx hb dX0_push_2 (by decide) (fun c1 => ?_) (fun c1 => ?_)
  · refine lv_iconst (v := -1) hx hb dX0_push_11 (by decide +kernel) ?_
    have c0 : isL a = false := decide_eq_false (fun z => i32_lt c1 z.1)
    exact hret _ (G, E) _ _ _ _ dX0_push_12 rfl hP hS ⟨by rw [pushA, if_neg (by rw [c0]; exact Bool.false_ne_true)], by rw [pushG, if_neg (by rw [c0]; exact Bool.false_ne_true)]⟩
  · refine lv_iload_n hx hb dX0_push_5 rfl (lv_at hl 1 rfl) ?_
    refine nr_bipush (v := 7) hx hb dX0_push_6 (by decide +kernel) ?_
    refine lv_icmp_le (tgt := 13) hx hb dX0_push_8 (by decide) (fun c2 => ?_) (fun c2 => ?_)
    · have c0 : isL a = true := decide_eq_true ⟨i32_nlt c1, c2⟩
      obtain ⟨n, hn1, hn2, en⟩ := isL_of c0
      subst en
      have eC := nI_clamp (n := n) (by omega)
      refine lv_aload_n hx hb dX0_push_13 rfl (lv_at hl 0 rfl) ?_
      refine gx_f10 X hP dX0_push_14 ?_
      refine nr_bipush (v := 8) hx hb dX0_push_17 (by decide +kernel) ?_
      refine nr_icmp_ne (tgt := 25) hx hb dX0_push_19 (by decide) (by omega) (by omega) (fun c3 => ?_) (fun c3 => ?_)
      · refine lv_aload_n hx hb dX0_push_25 rfl (lv_at hl 0 rfl) ?_
        refine gx_f3 X hP dX0_push_26 ?_
        refine lv_aload_n hx hb dX0_push_29 rfl (lv_at hl 0 rfl) ?_
        refine gx_f10 X hP dX0_push_30 ?_
        refine lv_iload_n hx hb dX0_push_33 rfl (lv_at hl 1 rfl) ?_
        refine gx_s4 X hP hS (by omega) dX0_push_34 (fun H locs hP hS => ?_)
        refine lv_aload_n hx hb dX0_push_35 rfl (lv_at hl 0 rfl) ?_
        refine lv_dup hx hb dX0_push_36 rfl ?_
        refine gx_f10 X hP dX0_push_37 ?_
        refine nr_top (y := (nI (gSi G))) rfl ?_
        refine nr_iconst (v := 1) hx hb dX0_push_40 (by decide +kernel) ?_
        refine nr_iadd hx hb dX0_push_41 ?_
        refine gx_p10 X hP hS dX0_push_42 (fun H locs hP hS => ?_)
        refine lv_aload_n hx hb dX0_push_45 rfl (lv_at hl 0 rfl) ?_
        refine gx_f10 X hP dX0_push_46 ?_
        refine nr_top (y := (nI (gSi G + 1))) rfl ?_
        exact hret _ (sGSi (sGTx G (va_up (gTx G) (gSi G) n)) (gSi G + 1), E) _ _ _ _ dX0_push_49 rfl hP hS ⟨by rw [pushA, if_pos c0, if_neg c3], by rw [pushG, if_pos c0, if_neg c3, eC]⟩
      · refine lv_bipush (v := -2) hx hb dX0_push_22 (by decide +kernel) ?_
        exact hret _ (G, E) _ _ _ _ dX0_push_24 rfl hP hS ⟨by rw [pushA, if_pos c0, if_pos c3], by rw [pushG, if_pos c0, if_pos c3]⟩
    · refine lv_iconst (v := -1) hx hb dX0_push_11 (by decide +kernel) ?_
      have c0 : isL a = false := decide_eq_false (fun z => c2 z.2)
      exact hret _ (G, E) _ _ _ _ dX0_push_12 rfl hP hS ⟨by rw [pushA, if_neg (by rw [c0]; exact Bool.false_ne_true)], by rw [pushG, if_neg (by rw [c0]; exact Bool.false_ne_true)]⟩
set_option maxHeartbeats 4000000 in
set_option maxRecDepth 100000 in
theorem mX_pop (l : Launch) (D : va_G) (h : Nat → Nat) (ca : Nat → ClassId) (A : Nat → Prop) (G : GG) (E : EE) (hG : okG G) : Met l yX0_pop (ws_ yX0_pop cX0_pop 1 (some .int)) ({ frames := 0, cells := 0, slots := 0, locals := 0 }) (PX D h ca A G E []) (va_Qi (fun r u => r = popA (gTx G) (gSi G) ∧ u = (popG G, E)) (BX D h ca) A) 0 0 A := by
  refine gx_enti (by decide) rfl (Nat.le_of_ble_eq_true rfl) ?_
  intro p e s m below meth c R Q hRf hRl X hret H locs ls hP hS hl
  have hx := X.1.1
  have hb := X.1.2.1
  generalize hav : ([.ref (h 0)] : List Value).toArray = av at X hret ⊢
  have hl : lv_has ls 1 [(0, .ref (h 0))] := hl
  have g1 := hG.2.1
  refine lv_aload_n hx hb dX0_pop_0 rfl (lv_at hl 0 rfl) ?_
  refine gx_f10 X hP dX0_pop_1 ?_
  refine nr_if_ne (tgt := 9) hx hb dX0_pop_4 (by decide) (by omega) (fun c1 => ?_) (fun c1 => ?_)
  · have g2 := hG.2.2.2 (gSi G - 1) (by omega)
    refine lv_aload_n hx hb dX0_pop_9 rfl (lv_at hl 0 rfl) ?_
    refine lv_dup hx hb dX0_pop_10 rfl ?_
    refine gx_f10 X hP dX0_pop_11 ?_
    refine nr_iconst (v := 1) hx hb dX0_pop_14 (by decide +kernel) ?_
    refine nr_isub hx hb dX0_pop_15 (by omega) ?_
    refine gx_p10 X hP hS dX0_pop_16 (fun H locs hP hS => ?_)
    refine lv_aload_n hx hb dX0_pop_19 rfl (lv_at hl 0 rfl) ?_
    refine gx_f3 X hP dX0_pop_20 ?_
    refine lv_aload_n hx hb dX0_pop_23 rfl (lv_at hl 0 rfl) ?_
    refine gx_f10 X hP dX0_pop_24 ?_
    refine nr_top (y := (nI (gSi G - 1))) rfl ?_
    refine gx_l4 X hP (by omega) dX0_pop_27 ?_
    refine nr_top (y := (nI (gTx G (gSi G - 1)))) rfl ?_
    exact hret _ (sGSi G (gSi G - 1), E) _ _ _ _ dX0_pop_28 rfl hP hS ⟨by rw [popA, if_neg c1], by rw [popG, if_neg c1]⟩
  · refine lv_iconst (v := -1) hx hb dX0_pop_7 (by decide +kernel) ?_
    exact hret _ (G, E) _ _ _ _ dX0_pop_8 rfl hP hS ⟨by rw [popA, if_pos c1], by rw [popG, if_pos c1]⟩
set_option maxHeartbeats 4000000 in
set_option maxRecDepth 100000 in
theorem mX_write (l : Launch) (D : va_G) (h : Nat → Nat) (ca : Nat → ClassId) (A : Nat → Prop) (G : GG) (E : EE) (a b : Int32) : Met l yX0_write (ws_ yX0_write cX0_write 6 (some .int)) ({ frames := 0, cells := 0, slots := 0, locals := 0 }) (PX D h ca A G E [.int a, .int b]) (va_Qi (fun r u => r = writeA a b ∧ u = (writeG a b G, E)) (BX D h ca) A) 0 0 A := by
  refine gx_enti (by decide) rfl (Nat.le_of_ble_eq_true rfl) ?_
  intro p e s m below meth c R Q hRf hRl X hret H locs ls hP hS hl
  have hx := X.1.1
  have hb := X.1.2.1
  generalize hav : ([.ref (h 0), .int a, .int b] : List Value).toArray = av at X hret ⊢
  have hl : lv_has ls 6 [(0, .ref (h 0)), (1, .int a), (2, .int b)] := hl
  refine lv_iload_n hx hb dX0_write_0 rfl (lv_at hl 1 rfl) ?_
  refine lv_if_lt (tgt := 10) hx hb dX0_write_1 (by decide) (fun c1 => ?_) (fun c1 => ?_)
  · refine lv_iconst (v := -1) hx hb dX0_write_10 (by decide +kernel) ?_
    have c0 : is8 a = false := decide_eq_false (fun z => i32_lt c1 z.1)
    exact hret _ (G, E) _ _ _ _ dX0_write_11 rfl hP hS ⟨by rw [writeA, if_neg (by rw [c0]; exact Bool.false_ne_true)], by rw [writeG, if_neg (by rw [c0]; exact Bool.false_ne_true)]⟩
  · refine lv_iload_n hx hb dX0_write_4 rfl (lv_at hl 1 rfl) ?_
    refine nr_bipush (v := 8) hx hb dX0_write_5 (by decide +kernel) ?_
    refine lv_icmp_le (tgt := 12) hx hb dX0_write_7 (by decide) (fun c2 => ?_) (fun c2 => ?_)
    · have c0 : is8 a = true := decide_eq_true ⟨i32_nlt c1, c2⟩
      obtain ⟨n, hn, en⟩ := is8_of c0
      subst en
      have eC := nI_clamp (n := n) (by omega)
      have hp := pw3 hn
      refine nr_iconst (v := 1) hx hb dX0_write_12 (by decide +kernel) ?_
      refine lv_istore_n (lv' := [(3, .int (nI 1)), (0, .ref (h 0)), (1, .int (nI n)), (2, .int b)]) hx hb dX0_write_13 rfl hl (by decide) rfl (fun ls hl => ?_)
      refine nr_iconst (v := 0) hx hb dX0_write_14 (by decide +kernel) ?_
      refine lv_istore (lv' := [(4, .int (nI 0)), (3, .int (nI 1)), (0, .ref (h 0)), (1, .int (nI n)), (2, .int b)]) hx hb dX0_write_15 hl (by decide) rfl (fun ls hl => ?_)
      have hl : lv_has ls 6 [(4, .int (nI 0)), (3, .int (nI (3 ^ 0))), (0, .ref (h 0)), (1, .int (nI n)), (2, .int b)] := hl
      have lp : ∀ k, k ≤ n → ∀ (H : Heap) (locs : List Loc) (ls : Array Slot), va_P D vwCl (wX h ca G E) H → va_S A s.heap H locs → lv_has ls 6 [(0, .ref (h 0)), (1, .int (nI n)), (2, .int b), (3, .int (nI (3 ^ k))), (4, .int (nI k))] → W p l e R s m av below meth c H locs 0 0 Q (F0 m 17 ls []) := by
        refine gp_up (fun k hk_k ih => ?_)
        intro H locs ls hP hS hl
        refine lv_iload hx hb dX0_write_17 (lv_at hl 4 rfl) ?_
        refine lv_iload_n hx hb dX0_write_19 rfl (lv_at hl 1 rfl) ?_
        have hpk : 3 ^ k ≤ 6561 := pw3 (by omega)
        refine nr_icmp_ge (tgt := 33) hx hb dX0_write_20 (by decide) (by omega) (by omega) (fun e1 => ?_) (fun e1 => ?_)
        · have hk : k = n := by omega
          rw [hk] at hl
          refine lv_iload_n hx hb dX0_write_33 rfl (lv_at hl 2 rfl) ?_
          refine lv_if_lt (tgt := 42) hx hb dX0_write_34 (by decide) (fun c3 => ?_) (fun c3 => ?_)
          · refine lv_bipush (v := -2) hx hb dX0_write_42 (by decide +kernel) ?_
            have c5 : isR (3 ^ n) b = false := decide_eq_false (fun z => i32_lt c3 z.1)
            exact hret _ (G, E) _ _ _ _ dX0_write_44 rfl hP hS ⟨by rw [writeA, if_pos c0, eC, if_neg (by rw [c5]; exact Bool.false_ne_true)], by rw [writeG, if_pos c0, eC, if_neg (by rw [c5]; exact Bool.false_ne_true)]⟩
          · refine lv_iload_n hx hb dX0_write_37 rfl (lv_at hl 2 rfl) ?_
            refine lv_iload_n hx hb dX0_write_38 rfl (lv_at hl 3 rfl) ?_
            refine lv_icmp_lt (tgt := 45) hx hb dX0_write_39 (by decide) (fun c4 => ?_) (fun c4 => ?_)
            · have c5 : isR (3 ^ n) b = true := decide_eq_true ⟨i32_nlt c3, c4⟩
              obtain ⟨cd, hcd, ecd⟩ := i32_ofl (by omega) (i32_nlt c3) c4
              subst ecd
              have eD := nI_clamp (n := cd) (by omega)
              refine lv_iload_n hx hb dX0_write_45 rfl (lv_at hl 2 rfl) ?_
              refine lv_istore (lv' := [(4, .int (nI cd)), (0, .ref (h 0)), (1, .int (nI n)), (2, .int (nI cd)), (3, .int (nI (3 ^ n)))]) hx hb dX0_write_46 hl (by decide) rfl (fun ls hl => ?_)
              refine lv_iload_n hx hb dX0_write_48 rfl (lv_at hl 2 rfl) ?_
              refine nr_iconst (v := 1) hx hb dX0_write_49 (by decide +kernel) ?_
              refine lv_isub hx hb dX0_write_50 ?_
              refine lv_istore (lv' := [(5, .int (nI n - nI 1)), (4, .int (nI cd)), (0, .ref (h 0)), (1, .int (nI n)), (2, .int (nI cd)), (3, .int (nI (3 ^ n)))]) hx hb dX0_write_51 hl (by decide) rfl (fun ls hl => ?_)
              have hP : va_P D vwCl (wX h ca (sGTx G (gTx G)) E) H := hP
              have lp2 : ∀ j : Nat, ∀ (rest : Nat) (f : Nat → Nat), j ≤ n → rest < 6561 → wrF f rest j = wrF (gTx G) cd n → ∀ (H : Heap) (locs : List Loc) (ls : Array Slot), va_P D vwCl (wX h ca (sGTx G f) E) H → va_S A s.heap H locs → lv_has ls 6 [(0, .ref (h 0)), (1, .int (nI n)), (4, .int (nI rest)), (5, .int (nI j - nI 1))] → W p l e R s m av below meth c H locs 0 0 Q (F0 m 53 ls []) := by
                refine gp_dn (fun j ih2 => ?_)
                intro rest f hj hre hfd H locs ls hP hS hl
                refine lv_iload hx hb dX0_write_53 (lv_at hl 3 rfl) ?_
                refine nr_if_lt_m (tgt := 83) hx hb dX0_write_55 (by decide) (by omega) (fun c6 => ?_) (fun c6 => ?_)
                · subst c6
                  have hf : f = wrF (gTx G) cd n := hfd
                  subst hf
                  have hl : lv_has ls 6 [(0, .ref (h 0)), (1, .int (nI n)), (4, .int (nI rest))] := lv_sub hl [0, 1, 2] rfl
                  refine lv_aload_n hx hb dX0_write_83 rfl (lv_at hl 0 rfl) ?_
                  refine lv_iload_n hx hb dX0_write_84 rfl (lv_at hl 1 rfl) ?_
                  refine gx_p10 X hP hS dX0_write_85 (fun H locs hP hS => ?_)
                  refine lv_iload_n hx hb dX0_write_88 rfl (lv_at hl 1 rfl) ?_
                  exact hret _ (sGSi (sGTx G (wrF (gTx G) cd n)) n, E) _ _ _ _ dX0_write_89 rfl hP hS ⟨by rw [writeA, if_pos c0, eC, if_pos c5], by rw [writeG, if_pos c0, eC, if_pos c5, eD]⟩
                · obtain ⟨i, ei⟩ : ∃ i, j = i + 1 := ⟨j - 1, by omega⟩
                  subst ei
                  refine lv_aload_n hx hb dX0_write_58 rfl (lv_at hl 0 rfl) ?_
                  refine gx_f3 X hP dX0_write_59 ?_
                  refine lv_iload hx hb dX0_write_62 (lv_at hl 3 rfl) ?_
                  refine nr_top (y := (nI i)) (nI_m1 i) ?_
                  refine nr_iconst (v := 5) hx hb dX0_write_64 (by decide +kernel) ?_
                  refine lv_iload hx hb dX0_write_65 (lv_at hl 2 rfl) ?_
                  refine nr_iconst (v := 3) hx hb dX0_write_67 (by decide +kernel) ?_
                  refine nr_irem hx hb dX0_write_68 (by omega) (by omega) (by omega) ?_
                  refine nr_iadd hx hb dX0_write_69 ?_
                  refine gx_s4 X hP hS (by omega) dX0_write_70 (fun H locs hP hS => ?_)
                  refine lv_iload hx hb dX0_write_71 (lv_at hl 2 rfl) ?_
                  refine nr_iconst (v := 3) hx hb dX0_write_73 (by decide +kernel) ?_
                  refine nr_idiv hx hb dX0_write_74 (by omega) (by omega) (by omega) ?_
                  refine lv_istore (lv' := [(4, .int (nI (rest / 3))), (0, .ref (h 0)), (1, .int (nI n)), (5, .int (nI (i + 1) - nI 1))]) hx hb dX0_write_75 hl (by decide) rfl (fun ls hl => ?_)
                  have hP : va_P D vwCl (wX h ca (sGTx G (va_up f i (5 + rest % 3))) E) H := hP
                  refine lv_iinc (v := (nI i - nI 1)) (lv' := [(5, .int (nI i - nI 1)), (4, .int (nI (rest / 3))), (0, .ref (h 0)), (1, .int (nI n))]) hx hb dX0_write_77 hl (k := 3) rfl (nI_id _) (by decide) rfl (fun ls hl => ?_)
                  refine lv_goto (tgt := 53) hx hb dX0_write_80 (by decide) ?_
                  exact ih2 i rfl (rest / 3) (va_up f i (5 + rest % 3)) (by omega) (by omega) hfd _ _ _ hP hS (lv_sub hl [2, 3, 1, 0] rfl)
              exact lp2 n cd (gTx G) (Nat.le_refl _) (by omega) rfl _ _ _ hP hS (lv_sub hl [2, 3, 1, 0] rfl)
            · refine lv_bipush (v := -2) hx hb dX0_write_42 (by decide +kernel) ?_
              have c5 : isR (3 ^ n) b = false := decide_eq_false (fun z => c4 z.2)
              exact hret _ (G, E) _ _ _ _ dX0_write_44 rfl hP hS ⟨by rw [writeA, if_pos c0, eC, if_neg (by rw [c5]; exact Bool.false_ne_true)], by rw [writeG, if_pos c0, eC, if_neg (by rw [c5]; exact Bool.false_ne_true)]⟩
        · refine lv_iload_n hx hb dX0_write_23 rfl (lv_at hl 3 rfl) ?_
          refine nr_iconst (v := 3) hx hb dX0_write_24 (by decide +kernel) ?_
          refine nr_imul hx hb dX0_write_25 ?_
          refine lv_istore_n (lv' := [(3, .int (nI ((3 ^ k) * 3))), (0, .ref (h 0)), (1, .int (nI n)), (2, .int b), (4, .int (nI k))]) hx hb dX0_write_26 rfl hl (by decide) rfl (fun ls hl => ?_)
          refine lv_iinc (v := (nI (k + 1))) (lv' := [(4, .int (nI (k + 1))), (3, .int (nI ((3 ^ k) * 3))), (0, .ref (h 0)), (1, .int (nI n)), (2, .int b)]) hx hb dX0_write_27 hl (k := 4) rfl (nI_i1 _) (by decide) rfl (fun ls hl => ?_)
          refine lv_goto (tgt := 17) hx hb dX0_write_30 (by decide) ?_
          exact ih (by omega) _ _ _ hP hS (lv_sub hl [2, 3, 4, 1, 0] rfl)
      exact lp 0 (Nat.zero_le _) _ _ _ hP hS (lv_sub hl [2, 3, 4, 1, 0] rfl)
    · refine lv_iconst (v := -1) hx hb dX0_write_10 (by decide +kernel) ?_
      have c0 : is8 a = false := decide_eq_false (fun z => c2 z.2)
      exact hret _ (G, E) _ _ _ _ dX0_write_11 rfl hP hS ⟨by rw [writeA, if_neg (by rw [c0]; exact Bool.false_ne_true)], by rw [writeG, if_neg (by rw [c0]; exact Bool.false_ne_true)]⟩
end
section
/-! the questions: accepts .. nextLetter -/
set_option maxHeartbeats 4000000 in
set_option maxRecDepth 100000 in
theorem mX_accepts (l : Launch) (D : va_G) (h : Nat → Nat) (ca : Nat → ClassId) (A : Nat → Prop) (G : GG) (E : EE) (hG : okG G) : Met l yX0_accepts (ws_ yX0_accepts cX0_accepts 2 (some .int)) ({ frames := 7, cells := 0, slots := 0, locals := 168 }) (PX D h ca A G E []) (va_Qi (fun r u => u.1 = G ∧ r = nI (sfb (vX G) 0 0 (gSi G)).toNat) (BX D h ca) A) 0 0 A := by
  refine gx_enti (by decide) rfl (Nat.le_of_ble_eq_true rfl) ?_
  intro p e s m below meth c R Q hRf hRl X hret H locs ls hP hS hl
  have hx := X.1.1
  have hb := X.1.2.1
  generalize hav : ([.ref (h 0)] : List Value).toArray = av at X hret ⊢
  have hl : lv_has ls 2 [(0, .ref (h 0))] := hl
  have g3 := hG.2.1
  refine lv_aload_n hx hb dX0_accepts_0 rfl (lv_at hl 0 rfl) ?_
  refine nr_iconst (v := 0) hx hb dX0_accepts_1 (by decide +kernel) ?_
  refine nr_iconst (v := 0) hx hb dX0_accepts_2 (by decide +kernel) ?_
  refine gx_calli X (rest := []) (As := [.int (nI 0), .int (nI 0)]) (n := 2) (mX_endsOf l D h ca A G E 0 0 hG (by omega) (by omega)) (lw_V q118 q120 qs1 q23 q121) (by decide +kernel) ⟨by omega, by omega⟩ hP hS rfl hl.1 rfl (Nat.le_of_ble_eq_true rfl) dX0_accepts_3 (fun rr u H locs hu hP hS => ?_)
  obtain ⟨u1, F1⟩ := u
  obtain ⟨hu1, hr1⟩ := hu
  subst hr1
  have hu1 : u1 = G := hu1
  have hP : va_P D vwCl (wX h ca G F1) H := by rw [← hu1]; exact hP
  refine lv_istore_n (lv' := [(1, .int (bw (fun x => sfb (vX G) 0 0 x))), (0, .ref (h 0))]) hx hb dX0_accepts_6 rfl hl (by decide) rfl (fun ls hl => ?_)
  refine lv_iload_n hx hb dX0_accepts_7 rfl (lv_at hl 0 rfl) ?_
  refine lv_aload_n hx hb dX0_accepts_8 rfl (lv_at hl 1 rfl) ?_
  refine gx_f10 X hP dX0_accepts_9 ?_
  refine lv_ishr hx hb dX0_accepts_12 ?_
  refine nr_iconst (v := 1) hx hb dX0_accepts_13 (by decide +kernel) ?_
  refine nr_shr (B := fun x => sfb (vX G) 0 0 x) (k0 := gSi G) hx hb dX0_accepts_14 (by omega) ?_
  exact hret _ (G, F1) _ _ _ _ dX0_accepts_15 rfl hP hS ⟨rfl, rfl⟩
set_option maxHeartbeats 4000000 in
set_option maxRecDepth 100000 in
theorem mX_fits (l : Launch) (D : va_G) (h : Nat → Nat) (ca : Nat → ClassId) (A : Nat → Prop) (G : GG) (E : EE) (a b d : Int32) (hG : okG G) : Met l yX0_fits (ws_ yX0_fits cX0_fits 5 (some .int)) ({ frames := 7, cells := 0, slots := 0, locals := 168 }) (PX D h ca A G E [.int a, .int b, .int d]) (va_Qi (fun r u => u.1 = G ∧ r = fitsA (vX G) a b d) (BX D h ca) A) 0 0 A := by
  refine gx_enti (by decide) rfl (Nat.le_of_ble_eq_true rfl) ?_
  intro p e s m below meth c R Q hRf hRl X hret H locs ls hP hS hl
  have hx := X.1.1
  have hb := X.1.2.1
  generalize hav : ([.ref (h 0), .int a, .int b, .int d] : List Value).toArray = av at X hret ⊢
  have hl : lv_has ls 5 [(0, .ref (h 0)), (1, .int a), (2, .int b), (3, .int d)] := hl
  have g3 := hG.2.1
  refine lv_iload_n hx hb dX0_fits_0 rfl (lv_at hl 1 rfl) ?_
  refine gx_calls X.1 (rest := []) (As := [.int a]) (n := 1) (mX_isSign l a) (lw_S q158 q159 q23 q160) (by decide +kernel) ⟨by omega, by omega⟩ rfl hl.1 rfl (Nat.le_of_ble_eq_true rfl) dX0_fits_1 (fun r1 hr1 => ?_)
  subst hr1
  refine nr_if_ne_b (tgt := 9) hx hb dX0_fits_4 (by decide) (fun c1 => ?_) (fun c1 => ?_)
  · refine lv_aload_n hx hb dX0_fits_9 rfl (lv_at hl 0 rfl) ?_
    refine lv_iload_n hx hb dX0_fits_10 rfl (lv_at hl 2 rfl) ?_
    refine lv_iload_n hx hb dX0_fits_11 rfl (lv_at hl 3 rfl) ?_
    refine gx_callS X (rest := []) (As := [.int b, .int d]) (n := 2) (mX_isStretch l D h ca A G E b d) (lw_V q161 q163 qs10 q23 q164) (by decide +kernel) ⟨by omega, by omega⟩ hP hS rfl hl.1 rfl (Nat.le_of_ble_eq_true rfl) dX0_fits_12 (fun r2 hr2 => ?_)
    subst hr2
    refine nr_if_ne_b (tgt := 21) hx hb dX0_fits_15 (by decide) (fun c2 => ?_) (fun c2 => ?_)
    · have c2' : isT (vLn (vX G)) b d = true := c2
      obtain ⟨sg, hs, es⟩ := isS_of c1
      obtain ⟨i, j, hij, hj, ei, ej⟩ := isT_of g3 c2
      subst es
      subst ei
      subst ej
      refine lv_aload_n hx hb dX0_fits_21 rfl (lv_at hl 0 rfl) ?_
      refine lv_iload_n hx hb dX0_fits_22 rfl (lv_at hl 1 rfl) ?_
      refine lv_iload_n hx hb dX0_fits_23 rfl (lv_at hl 2 rfl) ?_
      refine gx_calli X (rest := []) (As := [.int (nI sg), .int (nI i)]) (n := 2) (mX_endsOf l D h ca A G E sg i hG hs (by omega)) (lw_V q118 q120 qs1 q23 q121) (by decide +kernel) ⟨by omega, by omega⟩ hP hS rfl hl.1 rfl (Nat.le_of_ble_eq_true rfl) dX0_fits_24 (fun rr u H locs hu hP hS => ?_)
      obtain ⟨u1, F2⟩ := u
      obtain ⟨hu1, hr1⟩ := hu
      subst hr1
      have hu1 : u1 = G := hu1
      have hP : va_P D vwCl (wX h ca G F2) H := by rw [← hu1]; exact hP
      refine lv_istore (lv' := [(4, .int (bw (fun x => sfb (vX G) sg i x))), (0, .ref (h 0)), (1, .int (nI sg)), (2, .int (nI i)), (3, .int (nI j))]) hx hb dX0_fits_27 hl (by decide) rfl (fun ls hl => ?_)
      refine lv_iload hx hb dX0_fits_29 (lv_at hl 0 rfl) ?_
      refine lv_iload_n hx hb dX0_fits_31 rfl (lv_at hl 4 rfl) ?_
      refine lv_ishr hx hb dX0_fits_32 ?_
      refine nr_iconst (v := 1) hx hb dX0_fits_33 (by decide +kernel) ?_
      refine nr_shr (B := fun x => sfb (vX G) sg i x) (k0 := j) hx hb dX0_fits_34 (by omega) ?_
      exact hret _ (G, F2) _ _ _ _ dX0_fits_35 rfl hP hS ⟨rfl, by rw [fitsA, if_pos c1, if_pos c2', nI_clamp (by omega), nI_clamp (by omega), nI_clamp (by omega)]⟩
    · refine lv_bipush (v := -2) hx hb dX0_fits_18 (by decide +kernel) ?_
      exact hret _ (G, E) _ _ _ _ dX0_fits_20 rfl hP hS ⟨rfl, by rw [fitsA, if_pos c1]; exact (if_neg (by show ¬ isT (gSi G) b d = true; rw [c2]; exact Bool.false_ne_true)).symm⟩
  · refine lv_iconst (v := -1) hx hb dX0_fits_7 (by decide +kernel) ?_
    exact hret _ (G, E) _ _ _ _ dX0_fits_8 rfl hP hS ⟨rfl, by rw [fitsA, if_neg (by rw [c1]; exact Bool.false_ne_true)]⟩
set_option maxHeartbeats 4000000 in
set_option maxRecDepth 100000 in
theorem mX_ends (l : Launch) (D : va_G) (h : Nat → Nat) (ca : Nat → ClassId) (A : Nat → Prop) (G : GG) (E : EE) (a b : Int32) (hG : okG G) : Met l yX0_ends (ws_ yX0_ends cX0_ends 3 (some .int)) ({ frames := 7, cells := 0, slots := 0, locals := 168 }) (PX D h ca A G E [.int a, .int b]) (va_Qi (fun r u => u.1 = G ∧ r = endsA (vX G) a b) (BX D h ca) A) 0 0 A := by
  refine gx_enti (by decide) rfl (Nat.le_of_ble_eq_true rfl) ?_
  intro p e s m below meth c R Q hRf hRl X hret H locs ls hP hS hl
  have hx := X.1.1
  have hb := X.1.2.1
  generalize hav : ([.ref (h 0), .int a, .int b] : List Value).toArray = av at X hret ⊢
  have hl : lv_has ls 3 [(0, .ref (h 0)), (1, .int a), (2, .int b)] := hl
  have g3 := hG.2.1
  refine lv_iload_n hx hb dX0_ends_0 rfl (lv_at hl 1 rfl) ?_
  refine gx_calls X.1 (rest := []) (As := [.int a]) (n := 1) (mX_isSign l a) (lw_S q158 q159 q23 q160) (by decide +kernel) ⟨by omega, by omega⟩ rfl hl.1 rfl (Nat.le_of_ble_eq_true rfl) dX0_ends_1 (fun r1 hr1 => ?_)
  subst hr1
  refine nr_if_ne_b (tgt := 9) hx hb dX0_ends_4 (by decide) (fun c1 => ?_) (fun c1 => ?_)
  · refine lv_iload_n hx hb dX0_ends_9 rfl (lv_at hl 2 rfl) ?_
    refine lv_if_lt (tgt := 30) hx hb dX0_ends_10 (by decide) (fun c2 => ?_) (fun c2 => ?_)
    · refine lv_bipush (v := -2) hx hb dX0_ends_30 (by decide +kernel) ?_
      have c0 : isP (gSi G) b = false := decide_eq_false (fun z => i32_lt c2 z.1)
      exact hret _ (G, E) _ _ _ _ dX0_ends_32 rfl hP hS ⟨rfl, by rw [endsA, if_pos c1]; exact (if_neg (by show ¬ isP (gSi G) b = true; rw [c0]; exact Bool.false_ne_true)).symm⟩
    · refine lv_iload_n hx hb dX0_ends_13 rfl (lv_at hl 2 rfl) ?_
      refine lv_aload_n hx hb dX0_ends_14 rfl (lv_at hl 0 rfl) ?_
      refine gx_f10 X hP dX0_ends_15 ?_
      refine lv_icmp_gt (tgt := 30) hx hb dX0_ends_18 (by decide) (fun c3 => ?_) (fun c3 => ?_)
      · refine lv_bipush (v := -2) hx hb dX0_ends_30 (by decide +kernel) ?_
        have c0 : isP (gSi G) b = false := decide_eq_false (fun z => i32_lt c3 z.2)
        exact hret _ (G, E) _ _ _ _ dX0_ends_32 rfl hP hS ⟨rfl, by rw [endsA, if_pos c1]; exact (if_neg (by show ¬ isP (gSi G) b = true; rw [c0]; exact Bool.false_ne_true)).symm⟩
      · have c0 : isP (gSi G) b = true := decide_eq_true ⟨i32_nlt c2, i32_nlt c3⟩
        have c0' : isP (vLn (vX G)) b = true := c0
        obtain ⟨sg, hs, es⟩ := isS_of c1
        obtain ⟨i, hi, ei⟩ := isP_of g3 c0
        subst es
        subst ei
        refine lv_aload_n hx hb dX0_ends_21 rfl (lv_at hl 0 rfl) ?_
        refine lv_iload_n hx hb dX0_ends_22 rfl (lv_at hl 1 rfl) ?_
        refine lv_iload_n hx hb dX0_ends_23 rfl (lv_at hl 2 rfl) ?_
        refine gx_calli X (rest := []) (As := [.int (nI sg), .int (nI i)]) (n := 2) (mX_endsOf l D h ca A G E sg i hG hs (by omega)) (lw_V q118 q120 qs1 q23 q121) (by decide +kernel) ⟨by omega, by omega⟩ hP hS rfl hl.1 rfl (Nat.le_of_ble_eq_true rfl) dX0_ends_24 (fun rr u H locs hu hP hS => ?_)
        obtain ⟨u1, F3⟩ := u
        obtain ⟨hu1, hr1⟩ := hu
        subst hr1
        have hu1 : u1 = G := hu1
        have hP : va_P D vwCl (wX h ca G F3) H := by rw [← hu1]; exact hP
        refine lv_goto (tgt := 32) hx hb dX0_ends_27 (by decide) ?_
        exact hret _ (G, F3) _ _ _ _ dX0_ends_32 rfl hP hS ⟨rfl, by rw [endsA, if_pos c1, if_pos c0', nI_clamp (by omega), nI_clamp (by omega)]⟩
  · refine lv_iconst (v := -1) hx hb dX0_ends_7 (by decide +kernel) ?_
    exact hret _ (G, E) _ _ _ _ dX0_ends_8 rfl hP hS ⟨rfl, by rw [endsA, if_neg (by rw [c1]; exact Bool.false_ne_true)]⟩
set_option maxHeartbeats 4000000 in
set_option maxRecDepth 100000 in
theorem mX_ruleFits (l : Launch) (D : va_G) (h : Nat → Nat) (ca : Nat → ClassId) (A : Nat → Prop) (G : GG) (E : EE) (a b d : Int32) (hG : okG G) : Met l yX0_ruleFits (ws_ yX0_ruleFits cX0_ruleFits 4 (some .int)) ({ frames := 8, cells := 0, slots := 0, locals := 195 }) (PX D h ca A G E [.int a, .int b, .int d]) (va_Qi (fun r u => u.1 = G ∧ r = ruleFitsA (vX G) a b d) (BX D h ca) A) 0 0 A := by
  refine gx_enti (by decide) rfl (Nat.le_of_ble_eq_true rfl) ?_
  intro p e s m below meth c R Q hRf hRl X hret H locs ls hP hS hl
  have hx := X.1.1
  have hb := X.1.2.1
  generalize hav : ([.ref (h 0), .int a, .int b, .int d] : List Value).toArray = av at X hret ⊢
  have hl : lv_has ls 4 [(0, .ref (h 0)), (1, .int a), (2, .int b), (3, .int d)] := hl
  have g4 := hG.1
  have g3 := hG.2.1
  refine lv_aload_n hx hb dX0_ruleFits_0 rfl (lv_at hl 0 rfl) ?_
  refine lv_iload_n hx hb dX0_ruleFits_1 rfl (lv_at hl 1 rfl) ?_
  refine gx_callS X (rest := []) (As := [.int a]) (n := 1) (mX_isRule l D h ca A G E a) (lw_V q86 q88 qs0 q23 q89) (by decide +kernel) ⟨by omega, by omega⟩ hP hS rfl hl.1 rfl (Nat.le_of_ble_eq_true rfl) dX0_ruleFits_2 (fun r1 hr1 => ?_)
  subst hr1
  refine nr_if_ne_b (tgt := 10) hx hb dX0_ruleFits_5 (by decide) (fun c1 => ?_) (fun c1 => ?_)
  · refine lv_aload_n hx hb dX0_ruleFits_10 rfl (lv_at hl 0 rfl) ?_
    refine lv_iload_n hx hb dX0_ruleFits_11 rfl (lv_at hl 2 rfl) ?_
    refine lv_iload_n hx hb dX0_ruleFits_12 rfl (lv_at hl 3 rfl) ?_
    refine gx_callS X (rest := []) (As := [.int b, .int d]) (n := 2) (mX_isStretch l D h ca A G E b d) (lw_V q161 q163 qs10 q23 q164) (by decide +kernel) ⟨by omega, by omega⟩ hP hS rfl hl.1 rfl (Nat.le_of_ble_eq_true rfl) dX0_ruleFits_13 (fun r2 hr2 => ?_)
    subst hr2
    have c1' : isR (vCn (vX G)) a = true := c1
    refine nr_if_ne_b (tgt := 22) hx hb dX0_ruleFits_16 (by decide) (fun c2 => ?_) (fun c2 => ?_)
    · have c2' : isT (vLn (vX G)) b d = true := c2
      obtain ⟨r, hr, er⟩ := isR_of g4 c1
      obtain ⟨i, j, hij, hj, ei, ej⟩ := isT_of g3 c2
      subst er
      subst ei
      subst ej
      refine lv_aload_n hx hb dX0_ruleFits_22 rfl (lv_at hl 0 rfl) ?_
      refine lv_iload_n hx hb dX0_ruleFits_23 rfl (lv_at hl 1 rfl) ?_
      refine lv_iload_n hx hb dX0_ruleFits_24 rfl (lv_at hl 2 rfl) ?_
      refine lv_iload_n hx hb dX0_ruleFits_25 rfl (lv_at hl 3 rfl) ?_
      refine gx_calli X (rest := []) (As := [.int (nI r), .int (nI i), .int (nI j)]) (n := 3) (mX_doesFit l D h ca A G E r i j hG hr hij hj) (lw_V q173 q175 qs11 q23 q176) (by decide +kernel) ⟨by omega, by omega⟩ hP hS rfl hl.1 rfl (Nat.le_of_ble_eq_true rfl) dX0_ruleFits_26 (fun rr u H locs hu hP hS => ?_)
      obtain ⟨u1, F4⟩ := u
      obtain ⟨hu1, hr1⟩ := hu
      subst hr1
      have hu1 : u1 = G := hu1
      have hP : va_P D vwCl (wX h ca G F4) H := by rw [← hu1]; exact hP
      refine nr_if_eq_b (tgt := 36) hx hb dX0_ruleFits_29 (by decide) (fun c3 => ?_) (fun c3 => ?_)
      · refine nr_iconst (v := 0) hx hb dX0_ruleFits_36 (by decide +kernel) ?_
        exact hret _ (G, F4) _ _ _ _ dX0_ruleFits_37 rfl hP hS ⟨rfl, by rw [ruleFitsA, if_pos c1', if_pos c2', nI_clamp (by omega), nI_clamp (by omega), nI_clamp (by omega), c3]; rfl⟩
      · refine nr_iconst (v := 1) hx hb dX0_ruleFits_32 (by decide +kernel) ?_
        refine lv_goto (tgt := 37) hx hb dX0_ruleFits_33 (by decide) ?_
        exact hret _ (G, F4) _ _ _ _ dX0_ruleFits_37 rfl hP hS ⟨rfl, by rw [ruleFitsA, if_pos c1', if_pos c2', nI_clamp (by omega), nI_clamp (by omega), nI_clamp (by omega), c3]; rfl⟩
    · refine lv_bipush (v := -2) hx hb dX0_ruleFits_19 (by decide +kernel) ?_
      exact hret _ (G, E) _ _ _ _ dX0_ruleFits_21 rfl hP hS ⟨rfl, by rw [ruleFitsA, if_pos c1']; exact (if_neg (by show ¬ isT (gSi G) b d = true; rw [c2]; exact Bool.false_ne_true)).symm⟩
  · refine lv_iconst (v := -1) hx hb dX0_ruleFits_8 (by decide +kernel) ?_
    exact hret _ (G, E) _ _ _ _ dX0_ruleFits_9 rfl hP hS ⟨rfl, by rw [ruleFitsA]; exact (if_neg (by show ¬ isR (gCn G) a = true; rw [c1]; exact Bool.false_ne_true)).symm⟩
set_option maxHeartbeats 4000000 in
set_option maxRecDepth 100000 in
theorem mX_stretches (l : Launch) (D : va_G) (h : Nat → Nat) (ca : Nat → ClassId) (A : Nat → Prop) (G : GG) (E : EE) (a : Int32) (hG : okG G) : Met l yX0_stretches (ws_ yX0_stretches cX0_stretches 6 (some .int)) ({ frames := 7, cells := 0, slots := 0, locals := 168 }) (PX D h ca A G E [.int a]) (va_Qi (fun r u => u.1 = G ∧ r = strA (vX G) a) (BX D h ca) A) 0 0 A := by
  refine gx_enti (by decide) rfl (Nat.le_of_ble_eq_true rfl) ?_
  intro p e s m below meth c R Q hRf hRl X hret H locs ls hP hS hl
  have hx := X.1.1
  have hb := X.1.2.1
  generalize hav : ([.ref (h 0), .int a] : List Value).toArray = av at X hret ⊢
  have hl : lv_has ls 6 [(0, .ref (h 0)), (1, .int a)] := hl
  have g3 := hG.2.1
  refine lv_iload_n hx hb dX0_stretches_0 rfl (lv_at hl 1 rfl) ?_
  refine gx_calls X.1 (rest := []) (As := [.int a]) (n := 1) (mX_isSign l a) (lw_S q158 q159 q23 q160) (by decide +kernel) ⟨by omega, by omega⟩ rfl hl.1 rfl (Nat.le_of_ble_eq_true rfl) dX0_stretches_1 (fun r1 hr1 => ?_)
  subst hr1
  refine nr_if_ne_b (tgt := 9) hx hb dX0_stretches_4 (by decide) (fun c1 => ?_) (fun c1 => ?_)
  · obtain ⟨sg, hs, es⟩ := isS_of c1
    subst es
    refine nr_iconst (v := 0) hx hb dX0_stretches_9 (by decide +kernel) ?_
    refine lv_istore_n (lv' := [(2, .int (nI 0)), (0, .ref (h 0)), (1, .int (nI sg))]) hx hb dX0_stretches_10 rfl hl (by decide) rfl (fun ls hl => ?_)
    refine nr_iconst (v := 0) hx hb dX0_stretches_11 (by decide +kernel) ?_
    refine lv_istore_n (lv' := [(3, .int (nI 0)), (2, .int (nI 0)), (0, .ref (h 0)), (1, .int (nI sg))]) hx hb dX0_stretches_12 rfl hl (by decide) rfl (fun ls hl => ?_)
    have lp : ∀ i, i ≤ gSi G + 1 → ∀ (F : EE) (mm : Nat), mm = strN (vX G) sg i → ∀ (H : Heap) (locs : List Loc) (ls : Array Slot), va_P D vwCl (wX h ca G F) H → va_S A s.heap H locs → lv_has ls 6 [(0, .ref (h 0)), (1, .int (nI sg)), (2, .int (nI mm)), (3, .int (nI i))] → W p l e R s m av below meth c H locs 0 0 Q (F0 m 13 ls []) := by
      refine gp_up (fun i hk_i ih => ?_)
      intro F mm hm H locs ls hP hS hl
      have hb2 := strN_bd (V := vX G) (s := sg) (b := 0) g3 i
      refine lv_iload_n hx hb dX0_stretches_13 rfl (lv_at hl 3 rfl) ?_
      refine lv_aload_n hx hb dX0_stretches_14 rfl (lv_at hl 0 rfl) ?_
      refine gx_f10 X hP dX0_stretches_15 ?_
      refine nr_icmp_gt (tgt := 63) hx hb dX0_stretches_18 (by decide) (by omega) (by omega) (fun c2 => ?_) (fun c2 => ?_)
      · have hi : i = gSi G + 1 := by omega
        subst hi
        refine lv_iload_n hx hb dX0_stretches_63 rfl (lv_at hl 2 rfl) ?_
        exact hret _ (G, F) _ _ _ _ dX0_stretches_64 rfl hP hS ⟨rfl, by rw [strA, if_pos c1, nI_clamp (by omega), hm]; rfl⟩
      · refine lv_aload_n hx hb dX0_stretches_21 rfl (lv_at hl 0 rfl) ?_
        refine lv_iload_n hx hb dX0_stretches_22 rfl (lv_at hl 1 rfl) ?_
        refine lv_iload_n hx hb dX0_stretches_23 rfl (lv_at hl 3 rfl) ?_
        refine gx_calli X (rest := []) (As := [.int (nI sg), .int (nI i)]) (n := 2) (mX_endsOf l D h ca A G F sg i hG hs (by omega)) (lw_V q118 q120 qs1 q23 q121) (by decide +kernel) ⟨by omega, by omega⟩ hP hS rfl hl.1 rfl (Nat.le_of_ble_eq_true rfl) dX0_stretches_24 (fun rr u H locs hu hP hS => ?_)
        obtain ⟨u1, F5⟩ := u
        obtain ⟨hu1, hr1⟩ := hu
        subst hr1
        have hu1 : u1 = G := hu1
        have hP : va_P D vwCl (wX h ca G F5) H := by rw [← hu1]; exact hP
        refine lv_istore (lv' := [(4, .int (bw (fun x => sfb (vX G) sg i x))), (0, .ref (h 0)), (1, .int (nI sg)), (2, .int (nI mm)), (3, .int (nI i))]) hx hb dX0_stretches_27 hl (by decide) rfl (fun ls hl => ?_)
        refine nr_iconst (v := 0) hx hb dX0_stretches_29 (by decide +kernel) ?_
        refine lv_istore (lv' := [(5, .int (nI 0)), (4, .int (bw (fun x => sfb (vX G) sg i x))), (0, .ref (h 0)), (1, .int (nI sg)), (2, .int (nI mm)), (3, .int (nI i))]) hx hb dX0_stretches_30 hl (by decide) rfl (fun ls hl => ?_)
        have lp2 : ∀ j, j ≤ gSi G + 1 → ∀ (m2 : Nat), m2 = mm + cnt (fun x => sfb (vX G) sg i x) j → ∀ (H : Heap) (locs : List Loc) (ls : Array Slot), va_P D vwCl (wX h ca G F5) H → va_S A s.heap H locs → lv_has ls 6 [(0, .ref (h 0)), (1, .int (nI sg)), (2, .int (nI m2)), (3, .int (nI i)), (4, .int (bw (fun x => sfb (vX G) sg i x))), (5, .int (nI j))] → W p l e R s m av below meth c H locs 0 0 Q (F0 m 32 ls []) := by
          refine gp_up (fun j hk_j ih2 => ?_)
          intro m2 hm2 H locs ls hP hS hl
          have hb3 := cnt_le (fun x => sfb (vX G) sg i x) j
          refine lv_iload hx hb dX0_stretches_32 (lv_at hl 5 rfl) ?_
          refine lv_aload_n hx hb dX0_stretches_34 rfl (lv_at hl 0 rfl) ?_
          refine gx_f10 X hP dX0_stretches_35 ?_
          refine nr_icmp_gt (tgt := 57) hx hb dX0_stretches_38 (by decide) (by omega) (by omega) (fun c3 => ?_) (fun c3 => ?_)
          · have hj : j = gSi G + 1 := by omega
            rw [hj] at hm2
            refine lv_iinc (v := (nI (i + 1))) (lv' := [(3, .int (nI (i + 1))), (0, .ref (h 0)), (1, .int (nI sg)), (2, .int (nI m2)), (4, .int (bw (fun x => sfb (vX G) sg i x))), (5, .int (nI j))]) hx hb dX0_stretches_57 hl (k := 3) rfl (nI_i1 _) (by decide) rfl (fun ls hl => ?_)
            refine lv_goto (tgt := 13) hx hb dX0_stretches_60 (by decide) ?_
            exact ih (by omega) F5 m2 (by rw [hm2, hm]; rfl) _ _ _ hP hS (lv_sub hl [1, 2, 3, 0] rfl)
          · refine lv_iload_n hx hb dX0_stretches_41 rfl (lv_at hl 2 rfl) ?_
            refine lv_iload hx hb dX0_stretches_42 (lv_at hl 4 rfl) ?_
            refine lv_iload hx hb dX0_stretches_44 (lv_at hl 5 rfl) ?_
            refine lv_ishr hx hb dX0_stretches_46 ?_
            refine nr_iconst (v := 1) hx hb dX0_stretches_47 (by decide +kernel) ?_
            refine nr_shr (B := fun x => sfb (vX G) sg i x) (k0 := j) hx hb dX0_stretches_48 (by omega) ?_
            refine nr_iadd hx hb dX0_stretches_49 ?_
            refine lv_istore_n (lv' := [(2, .int (nI (m2 + ((sfb (vX G) sg i j).toNat)))), (0, .ref (h 0)), (1, .int (nI sg)), (3, .int (nI i)), (4, .int (bw (fun x => sfb (vX G) sg i x))), (5, .int (nI j))]) hx hb dX0_stretches_50 rfl hl (by decide) rfl (fun ls hl => ?_)
            refine lv_iinc (v := (nI (j + 1))) (lv' := [(5, .int (nI (j + 1))), (2, .int (nI (m2 + ((sfb (vX G) sg i j).toNat)))), (0, .ref (h 0)), (1, .int (nI sg)), (3, .int (nI i)), (4, .int (bw (fun x => sfb (vX G) sg i x)))]) hx hb dX0_stretches_51 hl (k := 5) rfl (nI_i1 _) (by decide) rfl (fun ls hl => ?_)
            refine lv_goto (tgt := 32) hx hb dX0_stretches_54 (by decide) ?_
            exact ih2 (by omega) _ (by rw [hm2, Nat.add_assoc]; rfl) _ _ _ hP hS (lv_sub hl [2, 3, 1, 4, 5, 0] rfl)
        exact lp2 0 (Nat.zero_le _) mm rfl _ _ _ hP hS (lv_sub hl [2, 3, 4, 5, 1, 0] rfl)
    exact lp 0 (Nat.zero_le _) E 0 rfl _ _ _ hP hS (lv_sub hl [2, 3, 1, 0] rfl)
  · refine lv_iconst (v := -1) hx hb dX0_stretches_7 (by decide +kernel) ?_
    exact hret _ (G, E) _ _ _ _ dX0_stretches_8 rfl hP hS ⟨rfl, by rw [strA, if_neg (by rw [c1]; exact Bool.false_ne_true)]⟩
set_option maxHeartbeats 4000000 in
set_option maxRecDepth 100000 in
theorem mX_longest (l : Launch) (D : va_G) (h : Nat → Nat) (ca : Nat → ClassId) (A : Nat → Prop) (G : GG) (E : EE) (a : Int32) (hG : okG G) : Met l yX0_longest (ws_ yX0_longest cX0_longest 6 (some .int)) ({ frames := 7, cells := 0, slots := 0, locals := 168 }) (PX D h ca A G E [.int a]) (va_Qi (fun r u => u.1 = G ∧ r = lgA (vX G) a) (BX D h ca) A) 0 0 A := by
  refine gx_enti (by decide) rfl (Nat.le_of_ble_eq_true rfl) ?_
  intro p e s m below meth c R Q hRf hRl X hret H locs ls hP hS hl
  have hx := X.1.1
  have hb := X.1.2.1
  generalize hav : ([.ref (h 0), .int a] : List Value).toArray = av at X hret ⊢
  have hl : lv_has ls 6 [(0, .ref (h 0)), (1, .int a)] := hl
  have g3 := hG.2.1
  refine lv_iload_n hx hb dX0_longest_0 rfl (lv_at hl 1 rfl) ?_
  refine gx_calls X.1 (rest := []) (As := [.int a]) (n := 1) (mX_isSign l a) (lw_S q158 q159 q23 q160) (by decide +kernel) ⟨by omega, by omega⟩ rfl hl.1 rfl (Nat.le_of_ble_eq_true rfl) dX0_longest_1 (fun r1 hr1 => ?_)
  subst hr1
  refine nr_if_ne_b (tgt := 9) hx hb dX0_longest_4 (by decide) (fun c1 => ?_) (fun c1 => ?_)
  · obtain ⟨sg, hs, es⟩ := isS_of c1
    subst es
    refine lv_bipush (v := -2) hx hb dX0_longest_9 (by decide +kernel) ?_
    refine nr_top (y := (nI 0 - nI 2)) (by decide +kernel) ?_
    refine lv_istore_n (lv' := [(2, .int (nI 0 - nI 2)), (0, .ref (h 0)), (1, .int (nI sg))]) hx hb dX0_longest_11 rfl hl (by decide) rfl (fun ls hl => ?_)
    refine nr_iconst (v := 0) hx hb dX0_longest_12 (by decide +kernel) ?_
    refine lv_istore_n (lv' := [(3, .int (nI 0)), (2, .int (nI 0 - nI 2)), (0, .ref (h 0)), (1, .int (nI sg))]) hx hb dX0_longest_13 rfl hl (by decide) rfl (fun ls hl => ?_)
    have lp : ∀ i, i ≤ gSi G + 1 → ∀ (F : EE) (mm : Nat), mm = lgN (vX G) sg i → ∀ (H : Heap) (locs : List Loc) (ls : Array Slot), va_P D vwCl (wX h ca G F) H → va_S A s.heap H locs → lv_has ls 6 [(0, .ref (h 0)), (1, .int (nI sg)), (2, .int (nI mm - nI 2)), (3, .int (nI i))] → W p l e R s m av below meth c H locs 0 0 Q (F0 m 14 ls []) := by
      refine gp_up (fun i hk_i ih => ?_)
      intro F mm hm H locs ls hP hS hl
      refine lv_iload_n hx hb dX0_longest_14 rfl (lv_at hl 3 rfl) ?_
      refine lv_aload_n hx hb dX0_longest_15 rfl (lv_at hl 0 rfl) ?_
      refine gx_f10 X hP dX0_longest_16 ?_
      refine nr_icmp_gt (tgt := 78) hx hb dX0_longest_19 (by decide) (by omega) (by omega) (fun c2 => ?_) (fun c2 => ?_)
      · have hi : i = gSi G + 1 := by omega
        subst hi
        refine lv_iload_n hx hb dX0_longest_78 rfl (lv_at hl 2 rfl) ?_
        exact hret _ (G, F) _ _ _ _ dX0_longest_79 rfl hP hS ⟨rfl, by rw [lgA, if_pos c1, nI_clamp (by omega), hm]; rfl⟩
      · refine lv_aload_n hx hb dX0_longest_22 rfl (lv_at hl 0 rfl) ?_
        refine lv_iload_n hx hb dX0_longest_23 rfl (lv_at hl 1 rfl) ?_
        refine lv_iload_n hx hb dX0_longest_24 rfl (lv_at hl 3 rfl) ?_
        refine gx_calli X (rest := []) (As := [.int (nI sg), .int (nI i)]) (n := 2) (mX_endsOf l D h ca A G F sg i hG hs (by omega)) (lw_V q118 q120 qs1 q23 q121) (by decide +kernel) ⟨by omega, by omega⟩ hP hS rfl hl.1 rfl (Nat.le_of_ble_eq_true rfl) dX0_longest_25 (fun rr u H locs hu hP hS => ?_)
        obtain ⟨u1, F6⟩ := u
        obtain ⟨hu1, hr1⟩ := hu
        subst hr1
        have hu1 : u1 = G := hu1
        have hP : va_P D vwCl (wX h ca G F6) H := by rw [← hu1]; exact hP
        refine lv_istore (lv' := [(4, .int (bw (fun x => sfb (vX G) sg i x))), (0, .ref (h 0)), (1, .int (nI sg)), (2, .int (nI mm - nI 2)), (3, .int (nI i))]) hx hb dX0_longest_28 hl (by decide) rfl (fun ls hl => ?_)
        refine lv_iload_n hx hb dX0_longest_30 rfl (lv_at hl 4 rfl) ?_
        refine lv_istore (lv' := [(5, .int (nI i)), (4, .int (bw (fun x => sfb (vX G) sg i x))), (0, .ref (h 0)), (1, .int (nI sg)), (2, .int (nI mm - nI 2)), (3, .int (nI i))]) hx hb dX0_longest_31 hl (by decide) rfl (fun ls hl => ?_)
        have lp2 : ∀ j, j ≤ gSi G + 1 → ∀ (m2 : Nat), i ≤ j → m2 = lg1 (fun x => sfb (vX G) sg i x) i mm j → ∀ (H : Heap) (locs : List Loc) (ls : Array Slot), va_P D vwCl (wX h ca G F6) H → va_S A s.heap H locs → lv_has ls 6 [(0, .ref (h 0)), (1, .int (nI sg)), (2, .int (nI m2 - nI 2)), (3, .int (nI i)), (4, .int (bw (fun x => sfb (vX G) sg i x))), (5, .int (nI j))] → W p l e R s m av below meth c H locs 0 0 Q (F0 m 33 ls []) := by
          refine gp_up (fun j hk_j ih2 => ?_)
          intro m2 hj1 hm2 H locs ls hP hS hl
          have hb1 : mm ≤ gSi G + 2 := by rw [hm]; exact lgN_bd (vX G) sg i
          have hb2 : m2 ≤ gSi G + 2 := by rw [hm2]; exact lg1_bd hb1 j (by omega)
          refine lv_iload hx hb dX0_longest_33 (lv_at hl 5 rfl) ?_
          refine lv_aload_n hx hb dX0_longest_35 rfl (lv_at hl 0 rfl) ?_
          refine gx_f10 X hP dX0_longest_36 ?_
          refine nr_icmp_gt (tgt := 72) hx hb dX0_longest_39 (by decide) (by omega) (by omega) (fun c3 => ?_) (fun c3 => ?_)
          · have hj : j = gSi G + 1 := by omega
            rw [hj] at hm2
            refine lv_iinc (v := (nI (i + 1))) (lv' := [(3, .int (nI (i + 1))), (0, .ref (h 0)), (1, .int (nI sg)), (2, .int (nI m2 - nI 2)), (4, .int (bw (fun x => sfb (vX G) sg i x))), (5, .int (nI j))]) hx hb dX0_longest_72 hl (k := 3) rfl (nI_i1 _) (by decide) rfl (fun ls hl => ?_)
            refine lv_goto (tgt := 14) hx hb dX0_longest_75 (by decide) ?_
            exact ih (by omega) F6 m2 (by rw [hm2, hm]; rfl) _ _ _ hP hS (lv_sub hl [1, 2, 3, 0] rfl)
          · refine lv_iload hx hb dX0_longest_42 (lv_at hl 4 rfl) ?_
            refine lv_iload hx hb dX0_longest_44 (lv_at hl 5 rfl) ?_
            refine lv_ishr hx hb dX0_longest_46 ?_
            refine nr_iconst (v := 1) hx hb dX0_longest_47 (by decide +kernel) ?_
            refine nr_shr (B := fun x => sfb (vX G) sg i x) (k0 := j) hx hb dX0_longest_48 (by omega) ?_
            refine nr_iconst (v := 1) hx hb dX0_longest_49 (by decide +kernel) ?_
            refine nr_ne_b (tgt := 66) hx hb dX0_longest_50 (by decide) (fun c4 => ?_) (fun c4 => ?_)
            · refine lv_iinc (v := (nI (j + 1))) (lv' := [(5, .int (nI (j + 1))), (0, .ref (h 0)), (1, .int (nI sg)), (2, .int (nI m2 - nI 2)), (3, .int (nI i)), (4, .int (bw (fun x => sfb (vX G) sg i x)))]) hx hb dX0_longest_66 hl (k := 5) rfl (nI_i1 _) (by decide) rfl (fun ls hl => ?_)
              refine lv_goto (tgt := 33) hx hb dX0_longest_69 (by decide) ?_
              exact ih2 (by omega) m2 (by omega) (by rw [lg1, if_neg (by rw [c4]; intro z; exact absurd z.2.1 Bool.false_ne_true), hm2]) _ _ _ hP hS (lv_sub hl [1, 2, 3, 4, 5, 0] rfl)
            · refine lv_iload hx hb dX0_longest_53 (lv_at hl 5 rfl) ?_
              refine lv_iload_n hx hb dX0_longest_55 rfl (lv_at hl 3 rfl) ?_
              refine nr_isub hx hb dX0_longest_56 (by omega) ?_
              refine lv_iload_n hx hb dX0_longest_57 rfl (lv_at hl 2 rfl) ?_
              refine nr_le_d2 (tgt := 66) hx hb dX0_longest_58 (by decide) (by omega) (by omega) (fun c5 => ?_) (fun c5 => ?_)
              · refine lv_iinc (v := (nI (j + 1))) (lv' := [(5, .int (nI (j + 1))), (0, .ref (h 0)), (1, .int (nI sg)), (2, .int (nI m2 - nI 2)), (3, .int (nI i)), (4, .int (bw (fun x => sfb (vX G) sg i x)))]) hx hb dX0_longest_66 hl (k := 5) rfl (nI_i1 _) (by decide) rfl (fun ls hl => ?_)
                refine lv_goto (tgt := 33) hx hb dX0_longest_69 (by decide) ?_
                exact ih2 (by omega) m2 (by omega) (by rw [lg1, if_neg (by rw [← hm2]; omega), hm2]) _ _ _ hP hS (lv_sub hl [1, 2, 3, 4, 5, 0] rfl)
              · refine lv_iload hx hb dX0_longest_61 (lv_at hl 5 rfl) ?_
                refine lv_iload_n hx hb dX0_longest_63 rfl (lv_at hl 3 rfl) ?_
                refine nr_isub hx hb dX0_longest_64 (by omega) ?_
                refine nr_top (y := (nI (j - i + 2) - nI 2)) (by rw [pk_sub (by omega)]; rfl) ?_
                refine lv_istore_n (lv' := [(2, .int (nI (j - i + 2) - nI 2)), (0, .ref (h 0)), (1, .int (nI sg)), (3, .int (nI i)), (4, .int (bw (fun x => sfb (vX G) sg i x))), (5, .int (nI j))]) hx hb dX0_longest_65 rfl hl (by decide) rfl (fun ls hl => ?_)
                refine lv_iinc (v := (nI (j + 1))) (lv' := [(5, .int (nI (j + 1))), (2, .int (nI (j - i + 2) - nI 2)), (0, .ref (h 0)), (1, .int (nI sg)), (3, .int (nI i)), (4, .int (bw (fun x => sfb (vX G) sg i x)))]) hx hb dX0_longest_66 hl (k := 5) rfl (nI_i1 _) (by decide) rfl (fun ls hl => ?_)
                refine lv_goto (tgt := 33) hx hb dX0_longest_69 (by decide) ?_
                exact ih2 (by omega) (j - i + 2) (by omega) (by rw [lg1, if_pos (by rw [← hm2]; exact ⟨hj1, c4, c5⟩)]) _ _ _ hP hS (lv_sub hl [2, 3, 1, 4, 5, 0] rfl)
        exact lp2 i (by omega) mm (Nat.le_refl _) (lg1_le _ i mm i (Nat.le_refl _)).symm _ _ _ hP hS (lv_sub hl [2, 3, 4, 5, 1, 0] rfl)
    exact lp 0 (Nat.zero_le _) E 0 rfl _ _ _ hP hS (lv_sub hl [2, 3, 1, 0] rfl)
  · refine lv_iconst (v := -1) hx hb dX0_longest_7 (by decide +kernel) ?_
    exact hret _ (G, E) _ _ _ _ dX0_longest_8 rfl hP hS ⟨rfl, by rw [lgA, if_neg (by rw [c1]; exact Bool.false_ne_true)]⟩
set_option maxHeartbeats 4000000 in
set_option maxRecDepth 100000 in
theorem mX_empty (l : Launch) (D : va_G) (h : Nat → Nat) (ca : Nat → ClassId) (A : Nat → Prop) (G : GG) (E : EE) (a : Int32) (hG : okG G) : Met l yX0_empty (ws_ yX0_empty cX0_empty 3 (some .int)) ({ frames := 7, cells := 0, slots := 0, locals := 168 }) (PX D h ca A G E [.int a]) (va_Qi (fun r u => u.1 = G ∧ r = if isN a = true then nI (sfb (vX G) a.toNatClampNeg (gSi G) (gSi G)).toNat else -1) (BX D h ca) A) 0 0 A := by
  refine gx_enti (by decide) rfl (Nat.le_of_ble_eq_true rfl) ?_
  intro p e s m below meth c R Q hRf hRl X hret H locs ls hP hS hl
  have hx := X.1.1
  have hb := X.1.2.1
  generalize hav : ([.ref (h 0), .int a] : List Value).toArray = av at X hret ⊢
  have hl : lv_has ls 3 [(0, .ref (h 0)), (1, .int a)] := hl
  have g3 := hG.2.1
  refine lv_iload_n hx hb dX0_empty_0 rfl (lv_at hl 1 rfl) ?_
  refine gx_calls X.1 (rest := []) (As := [.int a]) (n := 1) (mX_isName l a) (lw_S q76 q77 q23 q78) (by decide +kernel) ⟨by omega, by omega⟩ rfl hl.1 rfl (Nat.le_of_ble_eq_true rfl) dX0_empty_1 (fun r1 hr1 => ?_)
  subst hr1
  refine nr_if_ne_b (tgt := 9) hx hb dX0_empty_4 (by decide) (fun c1 => ?_) (fun c1 => ?_)
  · obtain ⟨n, hn, en⟩ := isN_of c1
    subst en
    refine lv_aload_n hx hb dX0_empty_9 rfl (lv_at hl 0 rfl) ?_
    refine lv_iload_n hx hb dX0_empty_10 rfl (lv_at hl 1 rfl) ?_
    refine lv_aload_n hx hb dX0_empty_11 rfl (lv_at hl 0 rfl) ?_
    refine gx_f10 X hP dX0_empty_12 ?_
    refine gx_calli X (rest := []) (As := [.int (nI n), .int (nI (gSi G))]) (n := 2) (mX_endsOf l D h ca A G E n (gSi G) hG (by omega) (by omega)) (lw_V q118 q120 qs1 q23 q121) (by decide +kernel) ⟨by omega, by omega⟩ hP hS rfl hl.1 rfl (Nat.le_of_ble_eq_true rfl) dX0_empty_15 (fun rr u H locs hu hP hS => ?_)
    obtain ⟨u1, F7⟩ := u
    obtain ⟨hu1, hr1⟩ := hu
    subst hr1
    have hu1 : u1 = G := hu1
    have hP : va_P D vwCl (wX h ca G F7) H := by rw [← hu1]; exact hP
    refine lv_istore_n (lv' := [(2, .int (bw (fun x => sfb (vX G) n (gSi G) x))), (0, .ref (h 0)), (1, .int (nI n))]) hx hb dX0_empty_18 rfl hl (by decide) rfl (fun ls hl => ?_)
    refine lv_iload_n hx hb dX0_empty_19 rfl (lv_at hl 0 rfl) ?_
    refine lv_aload_n hx hb dX0_empty_20 rfl (lv_at hl 1 rfl) ?_
    refine gx_f10 X hP dX0_empty_21 ?_
    refine lv_ishr hx hb dX0_empty_24 ?_
    refine nr_iconst (v := 1) hx hb dX0_empty_25 (by decide +kernel) ?_
    refine nr_shr (B := fun x => sfb (vX G) n (gSi G) x) (k0 := gSi G) hx hb dX0_empty_26 (by omega) ?_
    exact hret _ (G, F7) _ _ _ _ dX0_empty_27 rfl hP hS ⟨rfl, by rw [if_pos c1, nI_clamp (by omega)]⟩
  · refine lv_iconst (v := -1) hx hb dX0_empty_7 (by decide +kernel) ?_
    exact hret _ (G, E) _ _ _ _ dX0_empty_8 rfl hP hS ⟨rfl, by rw [if_neg (by rw [c1]; exact Bool.false_ne_true)]⟩
set_option maxHeartbeats 4000000 in
set_option maxRecDepth 100000 in
theorem mX_ways (l : Launch) (D : va_G) (h : Nat → Nat) (ca : Nat → ClassId) (A : Nat → Prop) (G : GG) (E : EE) (a b d : Int32) (hG : okG G) : Met l yX0_ways (ws_ yX0_ways cX0_ways 6 (some .int)) ({ frames := 8, cells := 0, slots := 0, locals := 195 }) (PX D h ca A G E [.int a, .int b, .int d]) (va_Qi (fun r u => u.1 = G ∧ r = wayA (vX G) a b d) (BX D h ca) A) 0 0 A := by
  refine gx_enti (by decide) rfl (Nat.le_of_ble_eq_true rfl) ?_
  intro p e s m below meth c R Q hRf hRl X hret H locs ls hP hS hl
  have hx := X.1.1
  have hb := X.1.2.1
  generalize hav : ([.ref (h 0), .int a, .int b, .int d] : List Value).toArray = av at X hret ⊢
  have hl : lv_has ls 6 [(0, .ref (h 0)), (1, .int a), (2, .int b), (3, .int d)] := hl
  have g4 := hG.1
  have g3 := hG.2.1
  refine lv_iload_n hx hb dX0_ways_0 rfl (lv_at hl 1 rfl) ?_
  refine gx_calls X.1 (rest := []) (As := [.int a]) (n := 1) (mX_isName l a) (lw_S q76 q77 q23 q78) (by decide +kernel) ⟨by omega, by omega⟩ rfl hl.1 rfl (Nat.le_of_ble_eq_true rfl) dX0_ways_1 (fun r1 hr1 => ?_)
  subst hr1
  refine nr_if_ne_b (tgt := 9) hx hb dX0_ways_4 (by decide) (fun c1 => ?_) (fun c1 => ?_)
  · refine lv_aload_n hx hb dX0_ways_9 rfl (lv_at hl 0 rfl) ?_
    refine lv_iload_n hx hb dX0_ways_10 rfl (lv_at hl 2 rfl) ?_
    refine lv_iload_n hx hb dX0_ways_11 rfl (lv_at hl 3 rfl) ?_
    refine gx_callS X (rest := []) (As := [.int b, .int d]) (n := 2) (mX_isStretch l D h ca A G E b d) (lw_V q161 q163 qs10 q23 q164) (by decide +kernel) ⟨by omega, by omega⟩ hP hS rfl hl.1 rfl (Nat.le_of_ble_eq_true rfl) dX0_ways_12 (fun r2 hr2 => ?_)
    subst hr2
    refine nr_if_ne_b (tgt := 21) hx hb dX0_ways_15 (by decide) (fun c2 => ?_) (fun c2 => ?_)
    · have c2' : isT (vLn (vX G)) b d = true := c2
      obtain ⟨n, hn, en⟩ := isN_of c1
      obtain ⟨i, j, hij, hj, ei, ej⟩ := isT_of g3 c2
      subst en
      subst ei
      subst ej
      refine nr_iconst (v := 0) hx hb dX0_ways_21 (by decide +kernel) ?_
      refine lv_istore (lv' := [(4, .int (nI 0)), (0, .ref (h 0)), (1, .int (nI n)), (2, .int (nI i)), (3, .int (nI j))]) hx hb dX0_ways_22 hl (by decide) rfl (fun ls hl => ?_)
      refine nr_iconst (v := 0) hx hb dX0_ways_24 (by decide +kernel) ?_
      refine lv_istore (lv' := [(5, .int (nI 0)), (4, .int (nI 0)), (0, .ref (h 0)), (1, .int (nI n)), (2, .int (nI i)), (3, .int (nI j))]) hx hb dX0_ways_25 hl (by decide) rfl (fun ls hl => ?_)
      have lp : ∀ r, r ≤ gCn G → ∀ (F : EE) (mm : Nat), mm = cnt (fun r => decide (vLf (vX G) r = n) && rfb (vX G) r i j) r → ∀ (H : Heap) (locs : List Loc) (ls : Array Slot), va_P D vwCl (wX h ca G F) H → va_S A s.heap H locs → lv_has ls 6 [(0, .ref (h 0)), (1, .int (nI n)), (2, .int (nI i)), (3, .int (nI j)), (4, .int (nI mm)), (5, .int (nI r))] → W p l e R s m av below meth c H locs 0 0 Q (F0 m 27 ls []) := by
        refine gp_up (fun r hk_r ih => ?_)
        intro F mm hm H locs ls hP hS hl
        have hb1 := cnt_le (fun r => decide (vLf (vX G) r = n) && rfb (vX G) r i j) r
        refine lv_iload hx hb dX0_ways_27 (lv_at hl 5 rfl) ?_
        refine lv_aload_n hx hb dX0_ways_29 rfl (lv_at hl 0 rfl) ?_
        refine gx_f9 X hP dX0_ways_30 ?_
        refine nr_icmp_ge (tgt := 67) hx hb dX0_ways_33 (by decide) (by omega) (by omega) (fun c3 => ?_) (fun c3 => ?_)
        · have hr : r = gCn G := by omega
          subst hr
          refine lv_iload hx hb dX0_ways_67 (lv_at hl 4 rfl) ?_
          exact hret _ (G, F) _ _ _ _ dX0_ways_69 rfl hP hS ⟨rfl, by rw [wayA, if_pos c1, if_pos c2', nI_clamp (by omega), nI_clamp (by omega), nI_clamp (by omega), hm]; rfl⟩
        · have gl := (hG.2.2.1 r c3).1
          refine lv_aload_n hx hb dX0_ways_36 rfl (lv_at hl 0 rfl) ?_
          refine gx_f0 X hP dX0_ways_37 ?_
          refine lv_iload hx hb dX0_ways_40 (lv_at hl 5 rfl) ?_
          refine gx_l1 X hP (by omega) dX0_ways_42 ?_
          refine lv_iload_n hx hb dX0_ways_43 rfl (lv_at hl 1 rfl) ?_
          refine nr_icmp_ne (tgt := 61) hx hb dX0_ways_44 (by decide) (by omega) (by omega) (fun c4 => ?_) (fun c4 => ?_)
          · refine lv_iinc (v := (nI (r + 1))) (lv' := [(5, .int (nI (r + 1))), (0, .ref (h 0)), (1, .int (nI n)), (2, .int (nI i)), (3, .int (nI j)), (4, .int (nI mm))]) hx hb dX0_ways_61 hl (k := 5) rfl (nI_i1 _) (by decide) rfl (fun ls hl => ?_)
            refine lv_goto (tgt := 27) hx hb dX0_ways_64 (by decide) ?_
            exact ih c3 F mm (cnt_sf hm (by show (decide (gLf G r = n) && _) = false; rw [decide_eq_false c4]; rfl)) _ _ _ hP hS (lv_sub hl [1, 2, 3, 4, 5, 0] rfl)
          · refine lv_aload_n hx hb dX0_ways_47 rfl (lv_at hl 0 rfl) ?_
            refine lv_iload hx hb dX0_ways_48 (lv_at hl 5 rfl) ?_
            refine lv_iload_n hx hb dX0_ways_50 rfl (lv_at hl 2 rfl) ?_
            refine lv_iload_n hx hb dX0_ways_51 rfl (lv_at hl 3 rfl) ?_
            refine gx_calli X (rest := []) (As := [.int (nI r), .int (nI i), .int (nI j)]) (n := 3) (mX_doesFit l D h ca A G F r i j hG c3 hij hj) (lw_V q173 q175 qs11 q23 q176) (by decide +kernel) ⟨by omega, by omega⟩ hP hS rfl hl.1 rfl (Nat.le_of_ble_eq_true rfl) dX0_ways_52 (fun rr u H locs hu hP hS => ?_)
            obtain ⟨u1, F8⟩ := u
            obtain ⟨hu1, hr1⟩ := hu
            subst hr1
            have hu1 : u1 = G := hu1
            have hP : va_P D vwCl (wX h ca G F8) H := by rw [← hu1]; exact hP
            refine nr_if_eq_b (tgt := 61) hx hb dX0_ways_55 (by decide) (fun c5 => ?_) (fun c5 => ?_)
            · refine lv_iinc (v := (nI (r + 1))) (lv' := [(5, .int (nI (r + 1))), (0, .ref (h 0)), (1, .int (nI n)), (2, .int (nI i)), (3, .int (nI j)), (4, .int (nI mm))]) hx hb dX0_ways_61 hl (k := 5) rfl (nI_i1 _) (by decide) rfl (fun ls hl => ?_)
              refine lv_goto (tgt := 27) hx hb dX0_ways_64 (by decide) ?_
              exact ih c3 F8 mm (cnt_sf hm (by show (_ && rfb (vX G) r i j) = false; rw [c5]; exact Bool.and_false _)) _ _ _ hP hS (lv_sub hl [1, 2, 3, 4, 5, 0] rfl)
            · refine lv_iinc (v := (nI (mm + 1))) (lv' := [(4, .int (nI (mm + 1))), (0, .ref (h 0)), (1, .int (nI n)), (2, .int (nI i)), (3, .int (nI j)), (5, .int (nI r))]) hx hb dX0_ways_58 hl (k := 4) rfl (nI_i1 _) (by decide) rfl (fun ls hl => ?_)
              refine lv_iinc (v := (nI (r + 1))) (lv' := [(5, .int (nI (r + 1))), (4, .int (nI (mm + 1))), (0, .ref (h 0)), (1, .int (nI n)), (2, .int (nI i)), (3, .int (nI j))]) hx hb dX0_ways_61 hl (k := 5) rfl (nI_i1 _) (by decide) rfl (fun ls hl => ?_)
              refine lv_goto (tgt := 27) hx hb dX0_ways_64 (by decide) ?_
              exact ih c3 F8 (mm + 1) (cnt_s1 hm (by show (decide (gLf G r = n) && rfb (vX G) r i j) = true; rw [c5, decide_eq_true c4]; rfl)) _ _ _ hP hS (lv_sub hl [2, 3, 4, 5, 1, 0] rfl)
      exact lp 0 (Nat.zero_le _) E 0 rfl _ _ _ hP hS (lv_sub hl [2, 3, 4, 5, 1, 0] rfl)
    · refine lv_bipush (v := -2) hx hb dX0_ways_18 (by decide +kernel) ?_
      exact hret _ (G, E) _ _ _ _ dX0_ways_20 rfl hP hS ⟨rfl, by rw [wayA, if_pos c1]; exact (if_neg (by show ¬ isT (gSi G) b d = true; rw [c2]; exact Bool.false_ne_true)).symm⟩
  · refine lv_iconst (v := -1) hx hb dX0_ways_7 (by decide +kernel) ?_
    exact hret _ (G, E) _ _ _ _ dX0_ways_8 rfl hP hS ⟨rfl, by rw [wayA, if_neg (by rw [c1]; exact Bool.false_ne_true)]⟩
set_option maxHeartbeats 4000000 in
set_option maxRecDepth 100000 in
theorem mX_nextLetter (l : Launch) (D : va_G) (h : Nat → Nat) (ca : Nat → ClassId) (A : Nat → Prop) (G : GG) (E : EE) (hG : okG G) : Met l yX0_nextLetter (ws_ yX0_nextLetter cX0_nextLetter 4 (some .int)) ({ frames := 7, cells := 0, slots := 0, locals := 168 }) (PX D h ca A G E []) (va_Qi (fun r u => u.1 = nextG G ∧ r = nxA (vX G)) (BX D h ca) A) 0 0 A := by
  refine gx_enti (by decide) rfl (Nat.le_of_ble_eq_true rfl) ?_
  intro p e s m below meth c R Q hRf hRl X hret H locs ls hP hS hl
  have hx := X.1.1
  have hb := X.1.2.1
  generalize hav : ([.ref (h 0)] : List Value).toArray = av at X hret ⊢
  have hl : lv_has ls 4 [(0, .ref (h 0))] := hl
  have g3 := hG.2.1
  refine lv_aload_n hx hb dX0_nextLetter_0 rfl (lv_at hl 0 rfl) ?_
  refine gx_f10 X hP dX0_nextLetter_1 ?_
  refine nr_bipush (v := 8) hx hb dX0_nextLetter_4 (by decide +kernel) ?_
  refine nr_icmp_ne (tgt := 11) hx hb dX0_nextLetter_6 (by decide) (by omega) (by omega) (fun c1 => ?_) (fun c1 => ?_)
  · refine nr_iconst (v := 0) hx hb dX0_nextLetter_11 (by decide +kernel) ?_
    refine lv_istore_n (lv' := [(1, .int (nI 0)), (0, .ref (h 0))]) hx hb dX0_nextLetter_12 rfl hl (by decide) rfl (fun ls hl => ?_)
    refine lv_aload_n hx hb dX0_nextLetter_13 rfl (lv_at hl 1 rfl) ?_
    refine lv_dup hx hb dX0_nextLetter_14 rfl ?_
    refine gx_f10 X hP dX0_nextLetter_15 ?_
    refine nr_iconst (v := 1) hx hb dX0_nextLetter_18 (by decide +kernel) ?_
    refine nr_iadd hx hb dX0_nextLetter_19 ?_
    refine gx_p10 X hP hS dX0_nextLetter_20 (fun H locs hP hS => ?_)
    refine nr_bipush (v := 7) hx hb dX0_nextLetter_23 (by decide +kernel) ?_
    refine lv_istore_n (lv' := [(2, .int (nI 7)), (1, .int (nI 0)), (0, .ref (h 0))]) hx hb dX0_nextLetter_25 rfl hl (by decide) rfl (fun ls hl => ?_)
    have hP : va_P D vwCl (wX h ca (sGTx (sGSi G (gSi G + 1)) (gTx G)) E) H := hP
    have lp : ∀ t : Nat, ∀ (F : EE) (f : Nat → Nat) (fd : Nat), t ≤ 3 → (∀ L, va_up f (gSi G) L = va_up (gTx G) (gSi G) L) → (t < 3 → f = va_up (gTx G) (gSi G) (t + 5)) → fd = nxN (vX G) (3 - t) → ∀ (H : Heap) (locs : List Loc) (ls : Array Slot), va_P D vwCl (wX h ca (sGTx (sGSi G (gSi G + 1)) f) F) H → va_S A s.heap H locs → lv_has ls 4 [(0, .ref (h 0)), (1, .int (nI fd)), (2, .int (nI (t + 4)))] → W p l e R s m av below meth c H locs 0 0 Q (F0 m 26 ls []) := by
      refine gp_dn (fun t ih => ?_)
      intro F f fd ht3 hf hf2 hn H locs ls hP hS hl
      have hfd := nxN_le (vX G) (3 - t)
      rw [← hn] at hfd
      refine lv_iload_n hx hb dX0_nextLetter_26 rfl (lv_at hl 2 rfl) ?_
      refine nr_iconst (v := 5) hx hb dX0_nextLetter_27 (by decide +kernel) ?_
      refine nr_icmp_lt (tgt := 70) hx hb dX0_nextLetter_28 (by decide) (by omega) (by omega) (fun c2 => ?_) (fun c2 => ?_)
      · have ht : t = 0 := by omega
        subst ht
        have hf3 := hf2 (by omega)
        subst hf3
        have hl : lv_has ls 4 [(0, .ref (h 0)), (1, .int (nI fd))] := lv_sub hl [0, 1] rfl
        refine lv_aload_n hx hb dX0_nextLetter_70 rfl (lv_at hl 0 rfl) ?_
        refine lv_dup hx hb dX0_nextLetter_71 rfl ?_
        refine gx_f10 X hP dX0_nextLetter_72 ?_
        refine nr_top (y := (nI (gSi G + 1))) rfl ?_
        refine nr_iconst (v := 1) hx hb dX0_nextLetter_75 (by decide +kernel) ?_
        refine nr_isub hx hb dX0_nextLetter_76 (by omega) ?_
        refine gx_p10 X hP hS dX0_nextLetter_77 (fun H locs hP hS => ?_)
        refine lv_iload_n hx hb dX0_nextLetter_80 rfl (lv_at hl 1 rfl) ?_
        exact hret _ (sGTx G (va_up (gTx G) (gSi G) 5), F) _ _ _ _ dX0_nextLetter_81 rfl hP hS ⟨by rw [nextG, if_neg c1], by rw [hn, nxA]; exact (if_neg (show ¬ gSi G = 8 from c1)).symm⟩
      · obtain ⟨i, ei⟩ : ∃ i, t = i + 1 := ⟨t - 1, by omega⟩
        subst ei
        have hl : lv_has ls 4 [(0, .ref (h 0)), (1, .int (nI fd)), (2, .int (nI (i + 4 + 1)))] := hl
        refine lv_aload_n hx hb dX0_nextLetter_31 rfl (lv_at hl 0 rfl) ?_
        refine gx_f3 X hP dX0_nextLetter_32 ?_
        refine lv_aload_n hx hb dX0_nextLetter_35 rfl (lv_at hl 0 rfl) ?_
        refine gx_f10 X hP dX0_nextLetter_36 ?_
        refine nr_top (y := (nI (gSi G + 1))) rfl ?_
        refine nr_iconst (v := 1) hx hb dX0_nextLetter_39 (by decide +kernel) ?_
        refine nr_isub hx hb dX0_nextLetter_40 (by omega) ?_
        refine nr_top (y := (nI (gSi G))) rfl ?_
        refine lv_iload_n hx hb dX0_nextLetter_41 rfl (lv_at hl 2 rfl) ?_
        refine gx_s4 X hP hS (by omega) dX0_nextLetter_42 (fun H locs hP hS => ?_)
        have ef := hf (i + 4 + 1)
        have hP : va_P D vwCl (wX h ca (sGTx (sGSi G (gSi G + 1)) (va_up (gTx G) (gSi G) (i + 4 + 1))) F) H := by rw [← ef]; exact hP
        refine lv_aload_n hx hb dX0_nextLetter_43 rfl (lv_at hl 0 rfl) ?_
        refine nr_iconst (v := 0) hx hb dX0_nextLetter_44 (by decide +kernel) ?_
        refine nr_iconst (v := 0) hx hb dX0_nextLetter_45 (by decide +kernel) ?_
        have hG2 := okG_plus hG c1 (c0 := i + 4 + 1) (by omega) (by omega)
        refine gx_calli X (rest := []) (As := [.int (nI 0), .int (nI 0)]) (n := 2) (mX_endsOf l D h ca A (sGTx (sGSi G (gSi G + 1)) (va_up (gTx G) (gSi G) (i + 4 + 1))) F 0 0 hG2 (by omega) (Nat.zero_le _)) (lw_V q118 q120 qs1 q23 q121) (by decide +kernel) ⟨by omega, by omega⟩ hP hS rfl hl.1 rfl (Nat.le_of_ble_eq_true rfl) dX0_nextLetter_46 (fun rr u H locs hu hP hS => ?_)
        obtain ⟨u1, F9⟩ := u
        obtain ⟨hu1, hr1⟩ := hu
        subst hr1
        have hu1 : u1 = sGTx (sGSi G (gSi G + 1)) (va_up (gTx G) (gSi G) (i + 4 + 1)) := hu1
        have hP : va_P D vwCl (wX h ca (sGTx (sGSi G (gSi G + 1)) (va_up (gTx G) (gSi G) (i + 4 + 1))) F9) H := by rw [← hu1]; exact hP
        have es := nxN_s (V := vX G) (i := i) (by omega)
        refine lv_istore_n (lv' := [(3, .int (bw (fun x => sfb (vX (sGTx (sGSi G (gSi G + 1)) (va_up (gTx G) (gSi G) (i + 4 + 1)))) 0 0 x))), (0, .ref (h 0)), (1, .int (nI fd)), (2, .int (nI (i + 4 + 1)))]) hx hb dX0_nextLetter_49 rfl hl (by decide) rfl (fun ls hl => ?_)
        refine lv_iload_n hx hb dX0_nextLetter_50 rfl (lv_at hl 0 rfl) ?_
        refine lv_aload_n hx hb dX0_nextLetter_51 rfl (lv_at hl 1 rfl) ?_
        refine gx_f10 X hP dX0_nextLetter_52 ?_
        refine nr_top (y := (nI (gSi G + 1))) rfl ?_
        refine lv_ishr hx hb dX0_nextLetter_55 ?_
        refine nr_iconst (v := 1) hx hb dX0_nextLetter_56 (by decide +kernel) ?_
        refine nr_shr (B := fun x => sfb (vX (sGTx (sGSi G (gSi G + 1)) (va_up (gTx G) (gSi G) (i + 4 + 1)))) 0 0 x) (k0 := gSi G + 1) hx hb dX0_nextLetter_57 (by omega) ?_
        refine nr_iconst (v := 1) hx hb dX0_nextLetter_58 (by decide +kernel) ?_
        refine nr_ne_b (tgt := 64) hx hb dX0_nextLetter_59 (by decide) (fun c3 => ?_) (fun c3 => ?_)
        · refine lv_iinc (v := (nI (i + 4))) (lv' := [(2, .int (nI (i + 4))), (3, .int (bw (fun x => sfb (vX (sGTx (sGSi G (gSi G + 1)) (va_up (gTx G) (gSi G) (i + 4 + 1)))) 0 0 x))), (0, .ref (h 0)), (1, .int (nI fd))]) hx hb dX0_nextLetter_64 hl (k := 3) rfl (nI_im _) (by decide) rfl (fun ls hl => ?_)
          refine lv_goto (tgt := 26) hx hb dX0_nextLetter_67 (by decide) ?_
          exact ih i rfl F9 (va_up (gTx G) (gSi G) (i + 4 + 1)) fd (by omega) (fun L => by rw [show va_up (va_up (gTx G) (gSi G) (i + 4 + 1)) (gSi G) L = va_up (gTx G) (gSi G) L from bx_uu _ _ _ _]) (fun _ => rfl) (by rw [es]; exact hn.trans (if_neg (by show ¬ sfb (vX (sGTx (sGSi G (gSi G + 1)) (va_up (gTx G) (gSi G) (i + 4 + 1)))) 0 0 (gSi G + 1) = true; rw [c3]; exact Bool.false_ne_true)).symm) _ _ _ hP hS (lv_sub hl [2, 3, 0] rfl)
        · refine lv_iload_n hx hb dX0_nextLetter_62 rfl (lv_at hl 3 rfl) ?_
          refine lv_istore_n (lv' := [(1, .int (nI (i + 4 + 1))), (3, .int (bw (fun x => sfb (vX (sGTx (sGSi G (gSi G + 1)) (va_up (gTx G) (gSi G) (i + 4 + 1)))) 0 0 x))), (0, .ref (h 0)), (2, .int (nI (i + 4 + 1)))]) hx hb dX0_nextLetter_63 rfl hl (by decide) rfl (fun ls hl => ?_)
          refine lv_iinc (v := (nI (i + 4))) (lv' := [(2, .int (nI (i + 4))), (1, .int (nI (i + 4 + 1))), (3, .int (bw (fun x => sfb (vX (sGTx (sGSi G (gSi G + 1)) (va_up (gTx G) (gSi G) (i + 4 + 1)))) 0 0 x))), (0, .ref (h 0))]) hx hb dX0_nextLetter_64 hl (k := 3) rfl (nI_im _) (by decide) rfl (fun ls hl => ?_)
          refine lv_goto (tgt := 26) hx hb dX0_nextLetter_67 (by decide) ?_
          exact ih i rfl F9 (va_up (gTx G) (gSi G) (i + 4 + 1)) (i + 4 + 1) (by omega) (fun L => by rw [show va_up (va_up (gTx G) (gSi G) (i + 4 + 1)) (gSi G) L = va_up (gTx G) (gSi G) L from bx_uu _ _ _ _]) (fun _ => rfl) (by rw [es]; exact (if_pos (show sfb (vX (sGTx (sGSi G (gSi G + 1)) (va_up (gTx G) (gSi G) (i + 4 + 1)))) 0 0 (gSi G + 1) = true from c3)).symm) _ _ _ hP hS (lv_sub hl [3, 1, 0] rfl)
    exact lp 3 E (gTx G) 0 (Nat.le_refl _) (fun _ => rfl) (fun z => absurd z (by omega)) rfl _ _ _ hP hS (lv_sub hl [2, 1, 0] rfl)
  · refine lv_iconst (v := -1) hx hb dX0_nextLetter_9 (by decide +kernel) ?_
    exact hret _ (G, E) _ _ _ _ dX0_nextLetter_10 rfl hP hS ⟨by rw [nextG, if_pos c1], by rw [nxA]; exact (if_pos (show gSi G = 8 from c1)).symm⟩
end
section
/-! the small methods of the reference -/
set_option maxHeartbeats 4000000 in
set_option maxRecDepth 100000 in
theorem mM_badRow (l : Launch) (D : va_G) (h : Nat → Nat) (ca : Nat → ClassId) (A : Nat → Prop) (M : MM) (b : Int32) : Met l yX1_badRow (ws_ yX1_badRow cX1_badRow 2 (some .boolean)) ({ frames := 0, cells := 0, slots := 0, locals := 0 }) (PM D h ca A M [.int b]) (vp_Si (fun r => r = nI (!isW b).toNat)) 0 0 (fun _ => False) := by
  refine gm_entS (by decide) rfl (Nat.le_of_ble_eq_true rfl) ?_
  intro p e s m below meth c R Q hRf hRl X hret ls hP hS hl
  have hx := X.1.1
  have hb := X.1.2.1
  generalize hav : ([.ref (h 0), .int b] : List Value).toArray = av at X hret ⊢
  have hl : lv_has ls 2 [(0, .ref (h 0)), (1, .int b)] := hl
  refine lv_iload_n hx hb dX1_badRow_0 rfl (lv_at hl 1 rfl) ?_
  refine lv_if_lt (tgt := 11) hx hb dX1_badRow_1 (by decide) (fun c1 => ?_) (fun c1 => ?_)
  · refine nr_iconst (v := 1) hx hb dX1_badRow_11 (by decide +kernel) ?_
    exact hret (nI 1) _ _ dX1_badRow_12 (by decide +kernel) (by rw [show isW b = false from isW_neg c1]; rfl)
  · refine lv_iload_n hx hb dX1_badRow_4 rfl (lv_at hl 1 rfl) ?_
    refine nr_sipush (v := 728) hx hb dX1_badRow_5 (by decide +kernel) ?_
    refine lv_icmp_le (tgt := 13) hx hb dX1_badRow_8 (by decide) (fun c2 => ?_) (fun c2 => ?_)
    · obtain ⟨n, hn, en⟩ := i32_of (by omega) (i32_nlt c1) c2
      subst en
      have eW := isW_nI (R := n) (by omega)
      refine lv_iload_n hx hb dX1_badRow_13 rfl (lv_at hl 1 rfl) ?_
      refine nr_if_ne (tgt := 19) hx hb dX1_badRow_14 (by decide) (by omega) (fun c3 => ?_) (fun c3 => ?_)
      · refine lv_iload_n hx hb dX1_badRow_19 rfl (lv_at hl 1 rfl) ?_
        refine nr_bipush (v := 9) hx hb dX1_badRow_20 (by decide +kernel) ?_
        refine nr_irem hx hb dX1_badRow_22 (by omega) (by omega) (by omega) ?_
        refine nr_if_eq (tgt := 55) hx hb dX1_badRow_23 (by decide) (by omega) (fun c4 => ?_) (fun c4 => ?_)
        · refine nr_iconst (v := 1) hx hb dX1_badRow_55 (by decide +kernel) ?_
          refine lv_goto (tgt := 60) hx hb dX1_badRow_56 (by decide) ?_
          exact hret (nI 1) _ _ dX1_badRow_60 (by decide +kernel) (by rw [show isW (nI n) = false from eW.trans (decide_eq_false (by omega))]; rfl)
        · refine lv_iload_n hx hb dX1_badRow_26 rfl (lv_at hl 1 rfl) ?_
          refine nr_bipush (v := 8) hx hb dX1_badRow_27 (by decide +kernel) ?_
          refine nr_icmp_le (tgt := 42) hx hb dX1_badRow_29 (by decide) (by omega) (by omega) (fun c5 => ?_) (fun c5 => ?_)
          · refine lv_iload_n hx hb dX1_badRow_42 rfl (lv_at hl 1 rfl) ?_
            refine nr_bipush (v := 80) hx hb dX1_badRow_43 (by decide +kernel) ?_
            refine nr_icmp_le (tgt := 59) hx hb dX1_badRow_45 (by decide) (by omega) (by omega) (fun c7 => ?_) (fun c7 => ?_)
            · refine nr_iconst (v := 0) hx hb dX1_badRow_59 (by decide +kernel) ?_
              exact hret (nI 0) _ _ dX1_badRow_60 (by decide +kernel) (by rw [show isW (nI n) = true from eW.trans (decide_eq_true (by omega))]; rfl)
            · refine lv_iload_n hx hb dX1_badRow_48 rfl (lv_at hl 1 rfl) ?_
              refine nr_bipush (v := 81) hx hb dX1_badRow_49 (by decide +kernel) ?_
              refine nr_idiv hx hb dX1_badRow_51 (by omega) (by omega) (by omega) ?_
              refine nr_if_ne (tgt := 59) hx hb dX1_badRow_52 (by decide) (by omega) (fun c8 => ?_) (fun c8 => ?_)
              · refine nr_iconst (v := 0) hx hb dX1_badRow_59 (by decide +kernel) ?_
                exact hret (nI 0) _ _ dX1_badRow_60 (by decide +kernel) (by rw [show isW (nI n) = true from eW.trans (decide_eq_true (by omega))]; rfl)
              · exact absurd c8 (by omega)
          · refine lv_iload_n hx hb dX1_badRow_32 rfl (lv_at hl 1 rfl) ?_
            refine nr_bipush (v := 9) hx hb dX1_badRow_33 (by decide +kernel) ?_
            refine nr_idiv hx hb dX1_badRow_35 (by omega) (by omega) (by omega) ?_
            refine nr_bipush (v := 9) hx hb dX1_badRow_36 (by decide +kernel) ?_
            refine nr_irem hx hb dX1_badRow_38 (by omega) (by omega) (by omega) ?_
            refine nr_if_eq (tgt := 55) hx hb dX1_badRow_39 (by decide) (by omega) (fun c6 => ?_) (fun c6 => ?_)
            · refine nr_iconst (v := 1) hx hb dX1_badRow_55 (by decide +kernel) ?_
              refine lv_goto (tgt := 60) hx hb dX1_badRow_56 (by decide) ?_
              exact hret (nI 1) _ _ dX1_badRow_60 (by decide +kernel) (by rw [show isW (nI n) = false from eW.trans (decide_eq_false (by omega))]; rfl)
            · refine lv_iload_n hx hb dX1_badRow_42 rfl (lv_at hl 1 rfl) ?_
              refine nr_bipush (v := 80) hx hb dX1_badRow_43 (by decide +kernel) ?_
              refine nr_icmp_le (tgt := 59) hx hb dX1_badRow_45 (by decide) (by omega) (by omega) (fun c7 => ?_) (fun c7 => ?_)
              · refine nr_iconst (v := 0) hx hb dX1_badRow_59 (by decide +kernel) ?_
                exact hret (nI 0) _ _ dX1_badRow_60 (by decide +kernel) (by rw [show isW (nI n) = true from eW.trans (decide_eq_true (by omega))]; rfl)
              · refine lv_iload_n hx hb dX1_badRow_48 rfl (lv_at hl 1 rfl) ?_
                refine nr_bipush (v := 81) hx hb dX1_badRow_49 (by decide +kernel) ?_
                refine nr_idiv hx hb dX1_badRow_51 (by omega) (by omega) (by omega) ?_
                refine nr_if_ne (tgt := 59) hx hb dX1_badRow_52 (by decide) (by omega) (fun c8 => ?_) (fun c8 => ?_)
                · refine nr_iconst (v := 0) hx hb dX1_badRow_59 (by decide +kernel) ?_
                  exact hret (nI 0) _ _ dX1_badRow_60 (by decide +kernel) (by rw [show isW (nI n) = true from eW.trans (decide_eq_true (by omega))]; rfl)
                · exact absurd c8 (by omega)
      · refine nr_iconst (v := 0) hx hb dX1_badRow_17 (by decide +kernel) ?_
        exact hret (nI 0) _ _ dX1_badRow_18 (by decide +kernel) (by rw [show isW (nI n) = true from eW.trans (decide_eq_true (by omega))]; rfl)
    · refine nr_iconst (v := 1) hx hb dX1_badRow_11 (by decide +kernel) ?_
      exact hret (nI 1) _ _ dX1_badRow_12 (by decide +kernel) (by rw [show isW b = false from isW_big (i32_nle c2)]; rfl)
set_option maxHeartbeats 4000000 in
set_option maxRecDepth 100000 in
theorem mM_badRule (l : Launch) (D : va_G) (h : Nat → Nat) (ca : Nat → ClassId) (A : Nat → Prop) (M : MM) (a : Int32) (g1 : mCn M ≤ 12) : Met l yX1_badRule (ws_ yX1_badRule cX1_badRule 2 (some .boolean)) ({ frames := 0, cells := 0, slots := 0, locals := 0 }) (PM D h ca A M [.int a]) (vp_Si (fun r => r = nI (!isR (mCn M) a).toNat)) 0 0 (fun _ => False) := by
  refine gm_entS (by decide) rfl (Nat.le_of_ble_eq_true rfl) ?_
  intro p e s m below meth c R Q hRf hRl X hret ls hP hS hl
  have hx := X.1.1
  have hb := X.1.2.1
  generalize hav : ([.ref (h 0), .int a] : List Value).toArray = av at X hret ⊢
  have hl : lv_has ls 2 [(0, .ref (h 0)), (1, .int a)] := hl
  refine lv_iload_n hx hb dX1_badRule_0 rfl (lv_at hl 1 rfl) ?_
  refine lv_if_lt (tgt := 18) hx hb dX1_badRule_1 (by decide) (fun c1 => ?_) (fun c1 => ?_)
  · refine nr_iconst (v := 1) hx hb dX1_badRule_18 (by decide +kernel) ?_
    refine lv_goto (tgt := 23) hx hb dX1_badRule_19 (by decide) ?_
    exact hret (nI 1) _ _ dX1_badRule_23 (by decide +kernel) (by rw [show isR (mCn M) a = false from decide_eq_false (fun z => i32_lt c1 z.1)]; rfl)
  · refine lv_iload_n hx hb dX1_badRule_4 rfl (lv_at hl 1 rfl) ?_
    refine lv_aload_n hx hb dX1_badRule_5 rfl (lv_at hl 0 rfl) ?_
    refine gm_f0 X hP dX1_badRule_6 ?_
    refine lv_icmp_ge (tgt := 18) hx hb dX1_badRule_9 (by decide) (fun c2 => ?_) (fun c2 => ?_)
    · refine nr_iconst (v := 1) hx hb dX1_badRule_18 (by decide +kernel) ?_
      refine lv_goto (tgt := 23) hx hb dX1_badRule_19 (by decide) ?_
      exact hret (nI 1) _ _ dX1_badRule_23 (by decide +kernel) (by rw [show isR (mCn M) a = false from decide_eq_false (fun z => i32_le c2 z.2)]; rfl)
    · obtain ⟨n, hn, en⟩ := i32_ofl (a := a) (by omega) (i32_nlt c1) (i32_nle c2)
      subst en
      refine lv_iload_n hx hb dX1_badRule_12 rfl (lv_at hl 1 rfl) ?_
      refine nr_bipush (v := 11) hx hb dX1_badRule_13 (by decide +kernel) ?_
      refine nr_icmp_le (tgt := 22) hx hb dX1_badRule_15 (by decide) (by omega) (by omega) (fun c3 => ?_) (fun c3 => ?_)
      · refine nr_iconst (v := 0) hx hb dX1_badRule_22 (by decide +kernel) ?_
        exact hret (nI 0) _ _ dX1_badRule_23 (by decide +kernel) (by rw [show isR (mCn M) (nI n) = true from decide_eq_true ⟨i32_nlt c1, i32_nle c2⟩]; rfl)
      · exact absurd c3 (by omega)
set_option maxHeartbeats 4000000 in
set_option maxRecDepth 100000 in
theorem mM_badSign (l : Launch) (D : va_G) (h : Nat → Nat) (ca : Nat → ClassId) (A : Nat → Prop) (M : MM) (a : Int32) : Met l yX1_badSign (ws_ yX1_badSign cX1_badSign 2 (some .boolean)) ({ frames := 0, cells := 0, slots := 0, locals := 0 }) (PM D h ca A M [.int a]) (vp_Si (fun r => r = nI (!isS a).toNat)) 0 0 (fun _ => False) := by
  refine gm_entS (by decide) rfl (Nat.le_of_ble_eq_true rfl) ?_
  intro p e s m below meth c R Q hRf hRl X hret ls hP hS hl
  have hx := X.1.1
  have hb := X.1.2.1
  generalize hav : ([.ref (h 0), .int a] : List Value).toArray = av at X hret ⊢
  have hl : lv_has ls 2 [(0, .ref (h 0)), (1, .int a)] := hl
  refine lv_iload_n hx hb dX1_badSign_0 rfl (lv_at hl 1 rfl) ?_
  refine lv_if_lt (tgt := 10) hx hb dX1_badSign_1 (by decide) (fun c1 => ?_) (fun c1 => ?_)
  · refine nr_iconst (v := 1) hx hb dX1_badSign_10 (by decide +kernel) ?_
    refine lv_goto (tgt := 15) hx hb dX1_badSign_11 (by decide) ?_
    exact hret (nI 1) _ _ dX1_badSign_15 (by decide +kernel) (by rw [show isS a = false from decide_eq_false (fun z => i32_lt c1 z.1)]; rfl)
  · refine lv_iload_n hx hb dX1_badSign_4 rfl (lv_at hl 1 rfl) ?_
    refine nr_bipush (v := 7) hx hb dX1_badSign_5 (by decide +kernel) ?_
    refine lv_icmp_le (tgt := 14) hx hb dX1_badSign_7 (by decide) (fun c2 => ?_) (fun c2 => ?_)
    · refine nr_iconst (v := 0) hx hb dX1_badSign_14 (by decide +kernel) ?_
      exact hret (nI 0) _ _ dX1_badSign_15 (by decide +kernel) (by rw [show isS a = true from decide_eq_true ⟨i32_nlt c1, c2⟩]; rfl)
    · refine nr_iconst (v := 1) hx hb dX1_badSign_10 (by decide +kernel) ?_
      refine lv_goto (tgt := 15) hx hb dX1_badSign_11 (by decide) ?_
      exact hret (nI 1) _ _ dX1_badSign_15 (by decide +kernel) (by rw [show isS a = false from decide_eq_false (fun z => c2 z.2)]; rfl)
set_option maxHeartbeats 4000000 in
set_option maxRecDepth 100000 in
theorem mM_badStretch (l : Launch) (D : va_G) (h : Nat → Nat) (ca : Nat → ClassId) (A : Nat → Prop) (M : MM) (a b : Int32) : Met l yX1_badStretch (ws_ yX1_badStretch cX1_badStretch 3 (some .boolean)) ({ frames := 0, cells := 0, slots := 0, locals := 0 }) (PM D h ca A M [.int a, .int b]) (vp_Si (fun r => r = nI (!isT (mLn M) a b).toNat)) 0 0 (fun _ => False) := by
  refine gm_entS (by decide) rfl (Nat.le_of_ble_eq_true rfl) ?_
  intro p e s m below meth c R Q hRf hRl X hret ls hP hS hl
  have hx := X.1.1
  have hb := X.1.2.1
  generalize hav : ([.ref (h 0), .int a, .int b] : List Value).toArray = av at X hret ⊢
  have hl : lv_has ls 3 [(0, .ref (h 0)), (1, .int a), (2, .int b)] := hl
  refine lv_iload_n hx hb dX1_badStretch_0 rfl (lv_at hl 1 rfl) ?_
  refine lv_if_lt (tgt := 17) hx hb dX1_badStretch_1 (by decide) (fun c1 => ?_) (fun c1 => ?_)
  · refine nr_iconst (v := 1) hx hb dX1_badStretch_17 (by decide +kernel) ?_
    refine lv_goto (tgt := 22) hx hb dX1_badStretch_18 (by decide) ?_
    exact hret (nI 1) _ _ dX1_badStretch_22 (by decide +kernel) (by rw [show isT (mLn M) a b = false from decide_eq_false (fun z => i32_lt c1 z.1)]; rfl)
  · refine lv_iload_n hx hb dX1_badStretch_4 rfl (lv_at hl 1 rfl) ?_
    refine lv_iload_n hx hb dX1_badStretch_5 rfl (lv_at hl 2 rfl) ?_
    refine lv_icmp_gt (tgt := 17) hx hb dX1_badStretch_6 (by decide) (fun c2 => ?_) (fun c2 => ?_)
    · refine nr_iconst (v := 1) hx hb dX1_badStretch_17 (by decide +kernel) ?_
      refine lv_goto (tgt := 22) hx hb dX1_badStretch_18 (by decide) ?_
      exact hret (nI 1) _ _ dX1_badStretch_22 (by decide +kernel) (by rw [show isT (mLn M) a b = false from decide_eq_false (fun z => i32_lt c2 z.2.1)]; rfl)
    · refine lv_iload_n hx hb dX1_badStretch_9 rfl (lv_at hl 2 rfl) ?_
      refine lv_aload_n hx hb dX1_badStretch_10 rfl (lv_at hl 0 rfl) ?_
      refine gm_f3 X hP dX1_badStretch_11 ?_
      refine lv_icmp_le (tgt := 21) hx hb dX1_badStretch_14 (by decide) (fun c3 => ?_) (fun c3 => ?_)
      · refine nr_iconst (v := 0) hx hb dX1_badStretch_21 (by decide +kernel) ?_
        exact hret (nI 0) _ _ dX1_badStretch_22 (by decide +kernel) (by rw [show isT (mLn M) a b = true from decide_eq_true ⟨i32_nlt c1, i32_nlt c2, c3⟩]; rfl)
      · refine nr_iconst (v := 1) hx hb dX1_badStretch_17 (by decide +kernel) ?_
        refine lv_goto (tgt := 22) hx hb dX1_badStretch_18 (by decide) ?_
        exact hret (nI 1) _ _ dX1_badStretch_22 (by decide +kernel) (by rw [show isT (mLn M) a b = false from decide_eq_false (fun z => c3 z.2.2)]; rfl)
set_option maxHeartbeats 4000000 in
set_option maxRecDepth 100000 in
theorem mM_rules (l : Launch) (D : va_G) (h : Nat → Nat) (ca : Nat → ClassId) (A : Nat → Prop) (M : MM)  : Met l yX1_rules (ws_ yX1_rules cX1_rules 1 (some .int)) ({ frames := 0, cells := 0, slots := 0, locals := 0 }) (PM D h ca A M []) (vp_Si (fun r => r = nI (mCn M))) 0 0 (fun _ => False) := by
  refine gm_entS (by decide) rfl (Nat.le_of_ble_eq_true rfl) ?_
  intro p e s m below meth c R Q hRf hRl X hret ls hP hS hl
  have hx := X.1.1
  have hb := X.1.2.1
  generalize hav : ([.ref (h 0)] : List Value).toArray = av at X hret ⊢
  have hl : lv_has ls 1 [(0, .ref (h 0))] := hl
  refine lv_aload_n hx hb dX1_rules_0 rfl (lv_at hl 0 rfl) ?_
  refine gm_f0 X hP dX1_rules_1 ?_
  exact hret _ _ _ dX1_rules_4 rfl rfl
set_option maxHeartbeats 4000000 in
set_option maxRecDepth 100000 in
theorem mM_length (l : Launch) (D : va_G) (h : Nat → Nat) (ca : Nat → ClassId) (A : Nat → Prop) (M : MM)  : Met l yX1_length (ws_ yX1_length cX1_length 1 (some .int)) ({ frames := 0, cells := 0, slots := 0, locals := 0 }) (PM D h ca A M []) (vp_Si (fun r => r = nI (mLn M))) 0 0 (fun _ => False) := by
  refine gm_entS (by decide) rfl (Nat.le_of_ble_eq_true rfl) ?_
  intro p e s m below meth c R Q hRf hRl X hret ls hP hS hl
  have hx := X.1.1
  have hb := X.1.2.1
  generalize hav : ([.ref (h 0)] : List Value).toArray = av at X hret ⊢
  have hl : lv_has ls 1 [(0, .ref (h 0))] := hl
  refine lv_aload_n hx hb dX1_length_0 rfl (lv_at hl 0 rfl) ?_
  refine gm_f3 X hP dX1_length_1 ?_
  exact hret _ _ _ dX1_length_4 rfl rfl
set_option maxHeartbeats 4000000 in
set_option maxRecDepth 100000 in
theorem mM_signFits (l : Launch) (D : va_G) (h : Nat → Nat) (ca : Nat → ClassId) (A : Nat → Prop) (M : MM) (s0 i j : Nat) (hM : okM M) (g1 : s0 < 8) (g2 : i ≤ j) (g3 : j ≤ mLn M) : Met l yX1_signFits (ws_ yX1_signFits cX1_signFits 4 (some .boolean)) ({ frames := 0, cells := 0, slots := 0, locals := 0 }) (PM D h ca A M [.int (nI s0), .int (nI i), .int (nI j)]) (vp_Si (fun r => r = nI (sgM M s0 i j).toNat)) 0 0 (fun _ => False) := by
  refine gm_entS (by decide) rfl (Nat.le_of_ble_eq_true rfl) ?_
  intro p e s m below meth c R Q hRf hRl X hret ls hP hS hl
  have hx := X.1.1
  have hb := X.1.2.1
  generalize hav : ([.ref (h 0), .int (nI s0), .int (nI i), .int (nI j)] : List Value).toArray = av at X hret ⊢
  have hl : lv_has ls 4 [(0, .ref (h 0)), (1, .int (nI s0)), (2, .int (nI i)), (3, .int (nI j))] := hl
  have g4 := hM.2.1
  refine lv_iload_n hx hb dX1_signFits_0 rfl (lv_at hl 1 rfl) ?_
  refine nr_iconst (v := 4) hx hb dX1_signFits_1 (by decide +kernel) ?_
  refine nr_icmp_le (tgt := 34) hx hb dX1_signFits_2 (by decide) (by omega) (by omega) (fun c1 => ?_) (fun c1 => ?_)
  · refine lv_aload_n hx hb dX1_signFits_34 rfl (lv_at hl 0 rfl) ?_
    refine gm_f5 X hP dX1_signFits_35 ?_
    refine nr_bipush (v := 81) hx hb dX1_signFits_38 (by decide +kernel) ?_
    refine lv_iload_n hx hb dX1_signFits_40 rfl (lv_at hl 1 rfl) ?_
    refine nr_imul hx hb dX1_signFits_41 ?_
    refine nr_bipush (v := 9) hx hb dX1_signFits_42 (by decide +kernel) ?_
    refine lv_iload_n hx hb dX1_signFits_44 rfl (lv_at hl 2 rfl) ?_
    refine nr_imul hx hb dX1_signFits_45 ?_
    refine nr_iadd hx hb dX1_signFits_46 ?_
    refine lv_iload_n hx hb dX1_signFits_47 rfl (lv_at hl 3 rfl) ?_
    refine nr_iadd hx hb dX1_signFits_48 ?_
    refine gm_l4 X hP (by omega) dX1_signFits_49 ?_
    exact hret _ _ _ dX1_signFits_50 (nI_bn _) (by rw [sgM, if_neg (by omega)])
  · have c1 : 5 ≤ s0 := c1
    refine lv_iload_n hx hb dX1_signFits_5 rfl (lv_at hl 3 rfl) ?_
    refine lv_iload_n hx hb dX1_signFits_6 rfl (lv_at hl 2 rfl) ?_
    refine nr_iconst (v := 1) hx hb dX1_signFits_7 (by decide +kernel) ?_
    refine nr_iadd hx hb dX1_signFits_8 ?_
    refine nr_icmp_ne (tgt := 32) hx hb dX1_signFits_9 (by decide) (by omega) (by omega) (fun c2 => ?_) (fun c2 => ?_)
    · refine nr_iconst (v := 0) hx hb dX1_signFits_32 (by decide +kernel) ?_
      exact hret _ _ _ dX1_signFits_33 (by decide +kernel) (by rw [sgM, if_pos c1, decide_eq_false (fun z => c2 z.1)]; rfl)
    · have g5 := hM.2.2.2 i (by omega)
      refine lv_iload_n hx hb dX1_signFits_12 rfl (lv_at hl 2 rfl) ?_
      refine nr_bipush (v := 8) hx hb dX1_signFits_13 (by decide +kernel) ?_
      refine nr_icmp_ge (tgt := 32) hx hb dX1_signFits_15 (by decide) (by omega) (by omega) (fun c3 => ?_) (fun c3 => ?_)
      · exact absurd c3 (by omega)
      · refine lv_aload_n hx hb dX1_signFits_18 rfl (lv_at hl 0 rfl) ?_
        refine gm_f4 X hP dX1_signFits_19 ?_
        refine lv_iload_n hx hb dX1_signFits_22 rfl (lv_at hl 2 rfl) ?_
        refine gm_l3 X hP (by omega) dX1_signFits_23 ?_
        refine lv_iload_n hx hb dX1_signFits_24 rfl (lv_at hl 1 rfl) ?_
        refine nr_icmp_ne (tgt := 32) hx hb dX1_signFits_25 (by decide) (by omega) (by omega) (fun c4 => ?_) (fun c4 => ?_)
        · refine nr_iconst (v := 0) hx hb dX1_signFits_32 (by decide +kernel) ?_
          exact hret _ _ _ dX1_signFits_33 (by decide +kernel) (by rw [sgM, if_pos c1, decide_eq_false (fun z => c4 z.2.2)]; rfl)
        · refine nr_iconst (v := 1) hx hb dX1_signFits_28 (by decide +kernel) ?_
          refine lv_goto (tgt := 33) hx hb dX1_signFits_29 (by decide) ?_
          exact hret _ _ _ dX1_signFits_33 (by decide +kernel) (by rw [sgM, if_pos c1, decide_eq_true ⟨c2, c3, c4⟩]; rfl)
set_option maxHeartbeats 4000000 in
set_option maxRecDepth 100000 in
theorem mM_twoFit (l : Launch) (D : va_G) (h : Nat → Nat) (ca : Nat → ClassId) (A : Nat → Prop) (M : MM) (s0 t0 i j : Nat) (hM : okM M) (g1 : s0 < 8) (g2 : t0 < 8) (g3 : i ≤ j) (g4 : j ≤ mLn M) : Met l yX1_twoFit (ws_ yX1_twoFit cX1_twoFit 6 (some .boolean)) ({ frames := 1, cells := 0, slots := 0, locals := 23 }) (PM D h ca A M [.int (nI s0), .int (nI t0), .int (nI i), .int (nI j)]) (vp_Si (fun r => r = nI (cl (∃ z, i ≤ z ∧ z ≤ j ∧ sgM M s0 i z = true ∧ sgM M t0 z j = true)).toNat)) 0 0 (fun _ => False) := by
  refine gm_entS (by decide) rfl (Nat.le_of_ble_eq_true rfl) ?_
  intro p e s m below meth c R Q hRf hRl X hret ls hP hS hl
  have hx := X.1.1
  have hb := X.1.2.1
  generalize hav : ([.ref (h 0), .int (nI s0), .int (nI t0), .int (nI i), .int (nI j)] : List Value).toArray = av at X hret ⊢
  have hl : lv_has ls 6 [(0, .ref (h 0)), (1, .int (nI s0)), (2, .int (nI t0)), (3, .int (nI i)), (4, .int (nI j))] := hl
  have g5 := hM.2.1
  refine lv_iload_n hx hb dX1_twoFit_0 rfl (lv_at hl 3 rfl) ?_
  refine lv_istore (lv' := [(5, .int (nI i)), (0, .ref (h 0)), (1, .int (nI s0)), (2, .int (nI t0)), (3, .int (nI i)), (4, .int (nI j))]) hx hb dX1_twoFit_1 hl (by decide) rfl (fun ls hl => ?_)
  have lp : ∀ m0, m0 ≤ j + 1 → i ≤ m0 → (∀ z, i ≤ z → z < m0 → ¬ (sgM M s0 i z = true ∧ sgM M t0 z j = true)) → ∀ (ls : Array Slot), lv_has ls 6 [(0, .ref (h 0)), (1, .int (nI s0)), (2, .int (nI t0)), (3, .int (nI i)), (4, .int (nI j)), (5, .int (nI m0))] → W p l e R s m av below meth c s.heap [] 0 0 Q (F0 m 3 ls []) := by
    refine gp_up (fun m0 hk_m0 ih => ?_)
    intro hm1 hm2 ls hl
    refine lv_iload hx hb dX1_twoFit_3 (lv_at hl 5 rfl) ?_
    refine lv_iload hx hb dX1_twoFit_5 (lv_at hl 4 rfl) ?_
    refine nr_icmp_gt (tgt := 41) hx hb dX1_twoFit_7 (by decide) (by omega) (by omega) (fun c2 => ?_) (fun c2 => ?_)
    · refine nr_iconst (v := 0) hx hb dX1_twoFit_41 (by decide +kernel) ?_
      exact hret _ _ _ dX1_twoFit_42 (by decide +kernel) (by rw [cl_f (fun ⟨z, z1, z2, z3, z4⟩ => hm2 z z1 (by omega) ⟨z3, z4⟩)]; rfl)
    · refine lv_aload_n hx hb dX1_twoFit_10 rfl (lv_at hl 0 rfl) ?_
      refine lv_iload_n hx hb dX1_twoFit_11 rfl (lv_at hl 1 rfl) ?_
      refine lv_iload_n hx hb dX1_twoFit_12 rfl (lv_at hl 3 rfl) ?_
      refine lv_iload hx hb dX1_twoFit_13 (lv_at hl 5 rfl) ?_
      refine gm_callS X (rest := []) (As := [.int (nI s0), .int (nI i), .int (nI m0)]) (n := 3) (mM_signFits l D h ca A M s0 i m0 hM g1 hm1 (by omega)) (lw_V q282 q284 qs18 q24 q285) (by decide +kernel) ⟨by omega, by omega⟩ hP hS rfl hl.1 rfl (Nat.le_of_ble_eq_true rfl) dX1_twoFit_15 (fun rr hrr => ?_)
      subst hrr
      refine nr_if_eq_b (tgt := 35) hx hb dX1_twoFit_18 (by decide) (fun c3 => ?_) (fun c3 => ?_)
      · have hm3 : ∀ z, i ≤ z → z < m0 + 1 → ¬ (sgM M s0 i z = true ∧ sgM M t0 z j = true) := by
          intro z z1 z2 z3
          rcases Nat.lt_or_ge z m0 with y | y
          · exact hm2 z z1 y z3
          · have e : z = m0 := by omega
            rw [e, c3] at z3
            exact absurd z3.1 Bool.false_ne_true
        refine lv_iinc (v := (nI (m0 + 1))) (lv' := [(5, .int (nI (m0 + 1))), (0, .ref (h 0)), (1, .int (nI s0)), (2, .int (nI t0)), (3, .int (nI i)), (4, .int (nI j))]) hx hb dX1_twoFit_35 hl (k := 5) rfl (nI_i1 _) (by decide) rfl (fun ls hl => ?_)
        refine lv_goto (tgt := 3) hx hb dX1_twoFit_38 (by decide) ?_
        exact ih (by omega) (by omega) hm3 _ (lv_sub hl [1, 2, 3, 4, 5, 0] rfl)
      · refine lv_aload_n hx hb dX1_twoFit_21 rfl (lv_at hl 0 rfl) ?_
        refine lv_iload_n hx hb dX1_twoFit_22 rfl (lv_at hl 2 rfl) ?_
        refine lv_iload hx hb dX1_twoFit_23 (lv_at hl 5 rfl) ?_
        refine lv_iload hx hb dX1_twoFit_25 (lv_at hl 4 rfl) ?_
        refine gm_callS X (rest := []) (As := [.int (nI t0), .int (nI m0), .int (nI j)]) (n := 3) (mM_signFits l D h ca A M t0 m0 j hM g2 c2 g4) (lw_V q282 q284 qs18 q24 q285) (by decide +kernel) ⟨by omega, by omega⟩ hP hS rfl hl.1 rfl (Nat.le_of_ble_eq_true rfl) dX1_twoFit_27 (fun rr hrr => ?_)
        subst hrr
        refine nr_if_eq_b (tgt := 35) hx hb dX1_twoFit_30 (by decide) (fun c4 => ?_) (fun c4 => ?_)
        · have hm3 : ∀ z, i ≤ z → z < m0 + 1 → ¬ (sgM M s0 i z = true ∧ sgM M t0 z j = true) := by
            intro z z1 z2 z3
            rcases Nat.lt_or_ge z m0 with y | y
            · exact hm2 z z1 y z3
            · have e : z = m0 := by omega
              rw [e, c4] at z3
              exact absurd z3.2 Bool.false_ne_true
          refine lv_iinc (v := (nI (m0 + 1))) (lv' := [(5, .int (nI (m0 + 1))), (0, .ref (h 0)), (1, .int (nI s0)), (2, .int (nI t0)), (3, .int (nI i)), (4, .int (nI j))]) hx hb dX1_twoFit_35 hl (k := 5) rfl (nI_i1 _) (by decide) rfl (fun ls hl => ?_)
          refine lv_goto (tgt := 3) hx hb dX1_twoFit_38 (by decide) ?_
          exact ih (by omega) (by omega) hm3 _ (lv_sub hl [1, 2, 3, 4, 5, 0] rfl)
        · refine nr_iconst (v := 1) hx hb dX1_twoFit_33 (by decide +kernel) ?_
          exact hret _ _ _ dX1_twoFit_34 (by decide +kernel) (by rw [cl_t ⟨m0, hm1, c2, c3, c4⟩]; rfl)
  exact lp i (by omega) (Nat.le_refl _) (fun z z1 z2 => by omega) _ (lv_sub hl [1, 2, 3, 4, 5, 0] rfl)
set_option maxHeartbeats 4000000 in
set_option maxRecDepth 100000 in
theorem mM_rowFits (l : Launch) (D : va_G) (h : Nat → Nat) (ca : Nat → ClassId) (A : Nat → Prop) (M : MM) (R0 i j : Nat) (hM : okM M) (g1 : okR R0 = true) (g2 : i ≤ j) (g3 : j ≤ mLn M) : Met l yX1_rowFits (ws_ yX1_rowFits cX1_rowFits 8 (some .boolean)) ({ frames := 2, cells := 0, slots := 0, locals := 48 }) (PM D h ca A M [.int (nI R0), .int (nI i), .int (nI j)]) (vp_Si (fun r => r = nI (cl (rowP M R0 i j)).toNat)) 0 0 (fun _ => False) := by
  refine gm_entS (by decide) rfl (Nat.le_of_ble_eq_true rfl) ?_
  intro p e s m below meth c R Q hRf hRl X hret ls hP hS hl
  have hx := X.1.1
  have hb := X.1.2.1
  generalize hav : ([.ref (h 0), .int (nI R0), .int (nI i), .int (nI j)] : List Value).toArray = av at X hret ⊢
  have hl : lv_has ls 8 [(0, .ref (h 0)), (1, .int (nI R0)), (2, .int (nI i)), (3, .int (nI j))] := hl
  have g5 := hM.2.1
  have g6 := of_decide_eq_true g1
  refine lv_iload_n hx hb dX1_rowFits_0 rfl (lv_at hl 1 rfl) ?_
  refine nr_if_ne (tgt := 15) hx hb dX1_rowFits_1 (by decide) (by omega) (fun c1 => ?_) (fun c1 => ?_)
  · refine lv_iload_n hx hb dX1_rowFits_15 rfl (lv_at hl 1 rfl) ?_
    refine nr_bipush (v := 9) hx hb dX1_rowFits_16 (by decide +kernel) ?_
    refine nr_irem hx hb dX1_rowFits_18 (by omega) (by omega) (by omega) ?_
    refine nr_iconst (v := 1) hx hb dX1_rowFits_19 (by decide +kernel) ?_
    refine nr_isub hx hb dX1_rowFits_20 (by omega) ?_
    refine lv_istore (lv' := [(4, .int (nI ((R0 % 9) - 1))), (0, .ref (h 0)), (1, .int (nI R0)), (2, .int (nI i)), (3, .int (nI j))]) hx hb dX1_rowFits_21 hl (by decide) rfl (fun ls hl => ?_)
    refine lv_iload_n hx hb dX1_rowFits_23 rfl (lv_at hl 2 rfl) ?_
    refine nr_bipush (v := 9) hx hb dX1_rowFits_24 (by decide +kernel) ?_
    refine nr_icmp_ge (tgt := 38) hx hb dX1_rowFits_26 (by decide) (by omega) (by omega) (fun c2 => ?_) (fun c2 => ?_)
    · refine lv_iload_n hx hb dX1_rowFits_38 rfl (lv_at hl 2 rfl) ?_
      refine nr_bipush (v := 9) hx hb dX1_rowFits_39 (by decide +kernel) ?_
      refine nr_idiv hx hb dX1_rowFits_41 (by omega) (by omega) (by omega) ?_
      refine nr_bipush (v := 9) hx hb dX1_rowFits_42 (by decide +kernel) ?_
      refine nr_irem hx hb dX1_rowFits_44 (by omega) (by omega) (by omega) ?_
      refine nr_iconst (v := 1) hx hb dX1_rowFits_45 (by decide +kernel) ?_
      refine nr_isub hx hb dX1_rowFits_46 (by omega) ?_
      refine lv_istore (lv' := [(5, .int (nI (((R0 / 9) % 9) - 1))), (4, .int (nI ((R0 % 9) - 1))), (0, .ref (h 0)), (1, .int (nI R0)), (2, .int (nI i)), (3, .int (nI j))]) hx hb dX1_rowFits_47 hl (by decide) rfl (fun ls hl => ?_)
      refine lv_iload_n hx hb dX1_rowFits_49 rfl (lv_at hl 3 rfl) ?_
      refine nr_bipush (v := 81) hx hb dX1_rowFits_50 (by decide +kernel) ?_
      refine nr_icmp_ge (tgt := 66) hx hb dX1_rowFits_52 (by decide) (by omega) (by omega) (fun c3 => ?_) (fun c3 => ?_)
      · refine lv_iload_n hx hb dX1_rowFits_66 rfl (lv_at hl 3 rfl) ?_
        refine nr_bipush (v := 81) hx hb dX1_rowFits_67 (by decide +kernel) ?_
        refine nr_idiv hx hb dX1_rowFits_69 (by omega) (by omega) (by omega) ?_
        refine nr_iconst (v := 1) hx hb dX1_rowFits_70 (by decide +kernel) ?_
        refine nr_isub hx hb dX1_rowFits_71 (by omega) ?_
        refine lv_istore (lv' := [(6, .int (nI ((R0 / 81) - 1))), (5, .int (nI (((R0 / 9) % 9) - 1))), (4, .int (nI ((R0 % 9) - 1))), (0, .ref (h 0)), (1, .int (nI R0)), (2, .int (nI i)), (3, .int (nI j))]) hx hb dX1_rowFits_72 hl (by decide) rfl (fun ls hl => ?_)
        refine lv_iload_n hx hb dX1_rowFits_74 rfl (lv_at hl 5 rfl) ?_
        refine lv_istore (lv' := [(7, .int (nI i)), (6, .int (nI ((R0 / 81) - 1))), (5, .int (nI (((R0 / 9) % 9) - 1))), (4, .int (nI ((R0 % 9) - 1))), (0, .ref (h 0)), (1, .int (nI R0)), (2, .int (nI i)), (3, .int (nI j))]) hx hb dX1_rowFits_75 hl (by decide) rfl (fun ls hl => ?_)
        have ez := dsz_d (R := R0) (by omega)
        have er := row_3 (M := M) (i := i) ez g6.1 g3
        have lp : ∀ m0, m0 ≤ j + 1 → i ≤ m0 → (∀ z, i ≤ z → z < m0 → ¬ (sgM M (R0 / 81 - 1) i z = true ∧ ∃ n, z ≤ n ∧ n ≤ j ∧ sgM M (R0 / 9 % 9 - 1) z n = true ∧ sgM M (R0 % 9 - 1) n j = true)) → ∀ (ls : Array Slot), lv_has ls 8 [(0, .ref (h 0)), (2, .int (nI i)), (3, .int (nI j)), (4, .int (nI (R0 % 9 - 1))), (5, .int (nI (R0 / 9 % 9 - 1))), (6, .int (nI (R0 / 81 - 1))), (7, .int (nI m0))] → W p l e R s m av below meth c s.heap [] 0 0 Q (F0 m 77 ls []) := by
          refine gp_up (fun m0 hk_m0 ih => ?_)
          intro hm1 hm2 ls hl
          refine lv_iload hx hb dX1_rowFits_77 (lv_at hl 6 rfl) ?_
          refine lv_iload_n hx hb dX1_rowFits_79 rfl (lv_at hl 2 rfl) ?_
          refine nr_icmp_gt (tgt := 117) hx hb dX1_rowFits_80 (by decide) (by omega) (by omega) (fun c4 => ?_) (fun c4 => ?_)
          · refine nr_iconst (v := 0) hx hb dX1_rowFits_117 (by decide +kernel) ?_
            exact hret _ _ _ dX1_rowFits_118 (by decide +kernel) (by rw [cl_f (fun zz => by obtain ⟨z, z1, z2, z3⟩ := er.mp zz; exact hm2 z z1 (by omega) z3)]; rfl)
          · refine lv_aload_n hx hb dX1_rowFits_83 rfl (lv_at hl 0 rfl) ?_
            refine lv_iload hx hb dX1_rowFits_84 (lv_at hl 5 rfl) ?_
            refine lv_iload_n hx hb dX1_rowFits_86 rfl (lv_at hl 1 rfl) ?_
            refine lv_iload hx hb dX1_rowFits_87 (lv_at hl 6 rfl) ?_
            refine gm_callS X (rest := []) (As := [.int (nI (R0 / 81 - 1)), .int (nI i), .int (nI m0)]) (n := 3) (mM_signFits l D h ca A M (R0 / 81 - 1) i m0 hM (by omega) hm1 (by omega)) (lw_V q282 q284 qs18 q24 q285) (by decide +kernel) ⟨by omega, by omega⟩ hP hS rfl hl.1 rfl (Nat.le_of_ble_eq_true rfl) dX1_rowFits_89 (fun rr hrr => ?_)
            subst hrr
            refine nr_if_eq_b (tgt := 111) hx hb dX1_rowFits_92 (by decide) (fun c5 => ?_) (fun c5 => ?_)
            · have hm3 : ∀ z, i ≤ z → z < m0 + 1 → ¬ (sgM M (R0 / 81 - 1) i z = true ∧ ∃ n, z ≤ n ∧ n ≤ j ∧ sgM M (R0 / 9 % 9 - 1) z n = true ∧ sgM M (R0 % 9 - 1) n j = true) := by
                intro z z1 z2 z3
                rcases Nat.lt_or_ge z m0 with y | y
                · exact hm2 z z1 y z3
                · have e : z = m0 := by omega
                  rw [e] at z3
                  exact absurd z3.1 (by rw [c5]; exact Bool.false_ne_true)
              refine lv_iinc (v := (nI (m0 + 1))) (lv' := [(7, .int (nI (m0 + 1))), (0, .ref (h 0)), (2, .int (nI i)), (3, .int (nI j)), (4, .int (nI (R0 % 9 - 1))), (5, .int (nI (R0 / 9 % 9 - 1))), (6, .int (nI (R0 / 81 - 1)))]) hx hb dX1_rowFits_111 hl (k := 6) rfl (nI_i1 _) (by decide) rfl (fun ls hl => ?_)
              refine lv_goto (tgt := 77) hx hb dX1_rowFits_114 (by decide) ?_
              exact ih (by omega) (by omega) hm3 _ (lv_sub hl [1, 2, 3, 4, 5, 6, 0] rfl)
            · refine lv_aload_n hx hb dX1_rowFits_95 rfl (lv_at hl 0 rfl) ?_
              refine lv_iload hx hb dX1_rowFits_96 (lv_at hl 4 rfl) ?_
              refine lv_iload hx hb dX1_rowFits_98 (lv_at hl 3 rfl) ?_
              refine lv_iload hx hb dX1_rowFits_100 (lv_at hl 6 rfl) ?_
              refine lv_iload_n hx hb dX1_rowFits_102 rfl (lv_at hl 2 rfl) ?_
              refine gm_callS X (rest := []) (As := [.int (nI (R0 / 9 % 9 - 1)), .int (nI (R0 % 9 - 1)), .int (nI m0), .int (nI j)]) (n := 4) (mM_twoFit l D h ca A M (R0 / 9 % 9 - 1) (R0 % 9 - 1) m0 j hM (by omega) (by omega) c4 g3) (lw_V q286 q288 qs19 q24 q289) (by decide +kernel) ⟨by omega, by omega⟩ hP hS rfl hl.1 rfl (Nat.le_of_ble_eq_true rfl) dX1_rowFits_103 (fun rr hrr => ?_)
              subst hrr
              refine nr_if_eq_b (tgt := 111) hx hb dX1_rowFits_106 (by decide) (fun c6 => ?_) (fun c6 => ?_)
              · have hm3 : ∀ z, i ≤ z → z < m0 + 1 → ¬ (sgM M (R0 / 81 - 1) i z = true ∧ ∃ n, z ≤ n ∧ n ≤ j ∧ sgM M (R0 / 9 % 9 - 1) z n = true ∧ sgM M (R0 % 9 - 1) n j = true) := by
                  intro z z1 z2 z3
                  rcases Nat.lt_or_ge z m0 with y | y
                  · exact hm2 z z1 y z3
                  · have e : z = m0 := by omega
                    rw [e] at z3
                    exact absurd (cl_t z3.2) (by rw [c6]; exact Bool.false_ne_true)
                refine lv_iinc (v := (nI (m0 + 1))) (lv' := [(7, .int (nI (m0 + 1))), (0, .ref (h 0)), (2, .int (nI i)), (3, .int (nI j)), (4, .int (nI (R0 % 9 - 1))), (5, .int (nI (R0 / 9 % 9 - 1))), (6, .int (nI (R0 / 81 - 1)))]) hx hb dX1_rowFits_111 hl (k := 6) rfl (nI_i1 _) (by decide) rfl (fun ls hl => ?_)
                refine lv_goto (tgt := 77) hx hb dX1_rowFits_114 (by decide) ?_
                exact ih (by omega) (by omega) hm3 _ (lv_sub hl [1, 2, 3, 4, 5, 6, 0] rfl)
              · refine nr_iconst (v := 1) hx hb dX1_rowFits_109 (by decide +kernel) ?_
                exact hret _ _ _ dX1_rowFits_110 (by decide +kernel) (by rw [cl_t (er.mpr ⟨m0, hm1, c4, c5, cl_iff.mp c6⟩)]; rfl)
        exact lp i (by omega) (Nat.le_refl _) (fun z z1 z2 => by omega) _ (lv_sub hl [4, 6, 7, 3, 2, 1, 0] rfl)
      · have ez := dsz_c (R := R0) (by omega) (by omega)
        have er := row_2 (M := M) (i := i) ez g3
        refine lv_aload_n hx hb dX1_rowFits_55 rfl (lv_at hl 2 rfl) ?_
        refine lv_iload hx hb dX1_rowFits_56 (lv_at hl 0 rfl) ?_
        refine lv_iload hx hb dX1_rowFits_58 (lv_at hl 1 rfl) ?_
        refine lv_iload_n hx hb dX1_rowFits_60 rfl (lv_at hl 4 rfl) ?_
        refine lv_iload_n hx hb dX1_rowFits_61 rfl (lv_at hl 5 rfl) ?_
        refine gm_callS X (rest := []) (As := [.int (nI (((R0 / 9) % 9) - 1)), .int (nI ((R0 % 9) - 1)), .int (nI i), .int (nI j)]) (n := 4) (mM_twoFit l D h ca A M (R0 / 9 % 9 - 1) (R0 % 9 - 1) i j hM (by omega) (by omega) g2 g3) (lw_V q286 q288 qs19 q24 q289) (by decide +kernel) ⟨by omega, by omega⟩ hP hS rfl hl.1 rfl (Nat.le_of_ble_eq_true rfl) dX1_rowFits_62 (fun rr hrr => ?_)
        subst hrr
        exact hret _ _ _ dX1_rowFits_65 (nI_bn _) (by rw [cl_eq (P := rowP M R0 i j) (cl_iff.trans er.symm)])
    · have ez := dsz_b (R := R0) c1 (by omega)
      have er := row_1 (M := M) ez g2 g3
      refine lv_aload_n hx hb dX1_rowFits_29 rfl (lv_at hl 1 rfl) ?_
      refine lv_iload hx hb dX1_rowFits_30 (lv_at hl 0 rfl) ?_
      refine lv_iload_n hx hb dX1_rowFits_32 rfl (lv_at hl 3 rfl) ?_
      refine lv_iload_n hx hb dX1_rowFits_33 rfl (lv_at hl 4 rfl) ?_
      refine gm_callS X (rest := []) (As := [.int (nI ((R0 % 9) - 1)), .int (nI i), .int (nI j)]) (n := 3) (mM_signFits l D h ca A M (R0 % 9 - 1) i j hM (by omega) g2 g3) (lw_V q282 q284 qs18 q24 q285) (by decide +kernel) ⟨by omega, by omega⟩ hP hS rfl hl.1 rfl (Nat.le_of_ble_eq_true rfl) dX1_rowFits_34 (fun rr hrr => ?_)
      subst hrr
      exact hret _ _ _ dX1_rowFits_37 (nI_bn _) (by rw [cl_eq (P := rowP M R0 i j) er.symm])
  · subst c1
    refine lv_iload_n hx hb dX1_rowFits_4 rfl (lv_at hl 2 rfl) ?_
    refine lv_iload_n hx hb dX1_rowFits_5 rfl (lv_at hl 3 rfl) ?_
    refine nr_icmp_ne (tgt := 13) hx hb dX1_rowFits_6 (by decide) (by omega) (by omega) (fun c2 => ?_) (fun c2 => ?_)
    · refine nr_iconst (v := 0) hx hb dX1_rowFits_13 (by decide +kernel) ?_
      exact hret _ _ _ dX1_rowFits_14 (by decide +kernel) (by rw [cl_f (fun z => c2 (row_0.mp z).symm)]; rfl)
    · refine nr_iconst (v := 1) hx hb dX1_rowFits_9 (by decide +kernel) ?_
      refine lv_goto (tgt := 14) hx hb dX1_rowFits_10 (by decide) ?_
      exact hret _ _ _ dX1_rowFits_14 (by decide +kernel) (by rw [cl_t (row_0.mpr c2.symm)]; rfl)
end
section
/-! the changing methods of the reference -/
set_option maxHeartbeats 4000000 in
set_option maxRecDepth 100000 in
theorem mM_rule (l : Launch) (D : va_G) (h : Nat → Nat) (ca : Nat → ClassId) (A : Nat → Prop) (M : MM) (a b : Int32) (hM : okM M) : Met l yX1_rule (ws_ yX1_rule cX1_rule 4 (some .int)) ({ frames := 1, cells := 0, slots := 0, locals := 21 }) (PM D h ca A M [.int a, .int b]) (va_Qi (fun r u => r = ruleA a b (mCn M) ∧ u = ruleM a b M) (BM D h ca) A) 0 0 A := by
  refine gm_enti (by decide) rfl (Nat.le_of_ble_eq_true rfl) ?_
  intro p e s m below meth c R Q hRf hRl X hret H locs ls hP hS hl
  have hx := X.1.1
  have hb := X.1.2.1
  generalize hav : ([.ref (h 0), .int a, .int b] : List Value).toArray = av at X hret ⊢
  have hl : lv_has ls 4 [(0, .ref (h 0)), (1, .int a), (2, .int b)] := hl
  have g1 := hM.1
  refine lv_iload_n hx hb dX1_rule_0 rfl (lv_at hl 1 rfl) ?_
  refine lv_if_lt (tgt := 9) hx hb dX1_rule_1 (by decide) (fun c1 => ?_) (fun c1 => ?_)
  · refine lv_iconst (v := -1) hx hb dX1_rule_9 (by decide +kernel) ?_
    have c0 : isN a = false := decide_eq_false (fun z => i32_lt c1 z.1)
    exact hret _ M _ _ _ _ dX1_rule_10 rfl hP hS ⟨by rw [ruleA, if_neg (by rw [c0]; exact Bool.false_ne_true)], by rw [ruleM, if_neg (by rw [c0]; exact Bool.false_ne_true)]⟩
  · refine lv_iload_n hx hb dX1_rule_4 rfl (lv_at hl 1 rfl) ?_
    refine nr_iconst (v := 4) hx hb dX1_rule_5 (by decide +kernel) ?_
    refine lv_icmp_le (tgt := 11) hx hb dX1_rule_6 (by decide) (fun c2 => ?_) (fun c2 => ?_)
    · have c0 : isN a = true := decide_eq_true ⟨i32_nlt c1, n45.mpr c2⟩
      obtain ⟨n, hn, en⟩ := isN_of c0
      subst en
      have eCa := nI_clamp (n := n) (by omega)
      refine lv_aload_n hx hb dX1_rule_11 rfl (lv_at hl 0 rfl) ?_
      refine lv_iload_n hx hb dX1_rule_12 rfl (lv_at hl 2 rfl) ?_
      refine gm_callS X (rest := []) (As := [.int b]) (n := 1) (mM_badRow l D h ca A M b) (lw_V q226 q228 qs12 q24 q229) (by decide +kernel) ⟨by omega, by omega⟩ hP hS rfl hl.1 rfl (Nat.le_of_ble_eq_true rfl) dX1_rule_13 (fun r1 hr1 => ?_)
      subst hr1
      refine nr_if_eq_b (tgt := 22) hx hb dX1_rule_16 (by decide) (fun c3 => ?_) (fun c3 => ?_)
      · have c4 : isW b = true := by cases hw : isW b; rw [hw] at c3; cases c3; rfl
        obtain ⟨R0, hR0, hR1, eR⟩ := isW_of c4
        subst eR
        have eCb := nI_clamp (n := R0) (by omega)
        refine lv_aload_n hx hb dX1_rule_22 rfl (lv_at hl 0 rfl) ?_
        refine gm_f0 X hP dX1_rule_23 ?_
        refine lv_istore_n (lv' := [(3, .int (nI (mCn M))), (0, .ref (h 0)), (1, .int (nI n)), (2, .int (nI R0))]) hx hb dX1_rule_26 rfl hl (by decide) rfl (fun ls hl => ?_)
        refine lv_iload_n hx hb dX1_rule_27 rfl (lv_at hl 0 rfl) ?_
        refine nr_bipush (v := 11) hx hb dX1_rule_28 (by decide +kernel) ?_
        refine nr_icmp_le (tgt := 36) hx hb dX1_rule_30 (by decide) (by omega) (by omega) (fun c5 => ?_) (fun c5 => ?_)
        · refine lv_aload_n hx hb dX1_rule_36 rfl (lv_at hl 1 rfl) ?_
          refine gm_f1 X hP dX1_rule_37 ?_
          refine lv_iload_n hx hb dX1_rule_40 rfl (lv_at hl 0 rfl) ?_
          refine lv_iload_n hx hb dX1_rule_41 rfl (lv_at hl 2 rfl) ?_
          refine gm_s1 X hP hS (by omega) dX1_rule_42 (fun H locs hP hS => ?_)
          refine lv_aload_n hx hb dX1_rule_43 rfl (lv_at hl 1 rfl) ?_
          refine gm_f2 X hP dX1_rule_44 ?_
          refine lv_iload_n hx hb dX1_rule_47 rfl (lv_at hl 0 rfl) ?_
          refine lv_iload_n hx hb dX1_rule_48 rfl (lv_at hl 3 rfl) ?_
          refine gm_s2 X hP hS (by omega) dX1_rule_49 (fun H locs hP hS => ?_)
          refine lv_aload_n hx hb dX1_rule_50 rfl (lv_at hl 1 rfl) ?_
          refine lv_iload_n hx hb dX1_rule_51 rfl (lv_at hl 0 rfl) ?_
          refine nr_iconst (v := 1) hx hb dX1_rule_52 (by decide +kernel) ?_
          refine nr_iadd hx hb dX1_rule_53 ?_
          refine gm_p0 X hP hS dX1_rule_54 (fun H locs hP hS => ?_)
          refine lv_iload_n hx hb dX1_rule_57 rfl (lv_at hl 0 rfl) ?_
          exact hret _ (sMCn (sMRt (sMLf M (va_up (mLf M) (mCn M) n)) (va_up (mRt M) (mCn M) R0)) (mCn M + 1)) _ _ _ _ dX1_rule_58 rfl hP hS ⟨by rw [ruleA, if_pos c0, if_pos c4, if_neg (by omega)], by rw [ruleM, if_pos c0, if_pos c4, if_neg (by omega), eCa, eCb]⟩
        · refine lv_bipush (v := -3) hx hb dX1_rule_33 (by decide +kernel) ?_
          exact hret _ M _ _ _ _ dX1_rule_35 rfl hP hS ⟨by rw [ruleA, if_pos c0, if_pos c4, if_pos (by omega)], by rw [ruleM, if_pos c0, if_pos c4, if_pos (by omega)]⟩
      · have c4 : isW b = false := by cases hw : isW b; rfl; rw [hw] at c3; cases c3
        refine lv_bipush (v := -2) hx hb dX1_rule_19 (by decide +kernel) ?_
        exact hret _ M _ _ _ _ dX1_rule_21 rfl hP hS ⟨by rw [ruleA, if_pos c0, if_neg (by rw [c4]; exact Bool.false_ne_true)], by rw [ruleM, if_pos c0, if_neg (by rw [c4]; exact Bool.false_ne_true)]⟩
    · refine lv_iconst (v := -1) hx hb dX1_rule_9 (by decide +kernel) ?_
      have c0 : isN a = false := decide_eq_false (fun z => c2 (n45.mp z.2))
      exact hret _ M _ _ _ _ dX1_rule_10 rfl hP hS ⟨by rw [ruleA, if_neg (by rw [c0]; exact Bool.false_ne_true)], by rw [ruleM, if_neg (by rw [c0]; exact Bool.false_ne_true)]⟩
set_option maxHeartbeats 4000000 in
set_option maxRecDepth 100000 in
theorem mM_drop (l : Launch) (D : va_G) (h : Nat → Nat) (ca : Nat → ClassId) (A : Nat → Prop) (M : MM) (a : Int32) (hM : okM M) : Met l yX1_drop (ws_ yX1_drop cX1_drop 3 (some .int)) ({ frames := 1, cells := 0, slots := 0, locals := 21 }) (PM D h ca A M [.int a]) (va_Qi (fun r u => r = dropA a (mCn M) ∧ u = dropM a M) (BM D h ca) A) 0 0 A := by
  refine gm_enti (by decide) rfl (Nat.le_of_ble_eq_true rfl) ?_
  intro p e s m below meth c R Q hRf hRl X hret H locs ls hP hS hl
  have hx := X.1.1
  have hb := X.1.2.1
  generalize hav : ([.ref (h 0), .int a] : List Value).toArray = av at X hret ⊢
  have hl : lv_has ls 3 [(0, .ref (h 0)), (1, .int a)] := hl
  have g1 := hM.1
  refine lv_aload_n hx hb dX1_drop_0 rfl (lv_at hl 0 rfl) ?_
  refine lv_iload_n hx hb dX1_drop_1 rfl (lv_at hl 1 rfl) ?_
  refine gm_callS X (rest := []) (As := [.int a]) (n := 1) (mM_badRule l D h ca A M a g1) (lw_V q234 q236 qs13 q24 q237) (by decide +kernel) ⟨by omega, by omega⟩ hP hS rfl hl.1 rfl (Nat.le_of_ble_eq_true rfl) dX1_drop_2 (fun r1 hr1 => ?_)
  subst hr1
  refine nr_if_eq_b (tgt := 10) hx hb dX1_drop_5 (by decide) (fun c1 => ?_) (fun c1 => ?_)
  · have c1 : isR (mCn M) a = true := by cases hw : isR (mCn M) a; rw [hw] at c1; cases c1; rfl
    obtain ⟨r, hr, er⟩ := isR_of g1 c1
    subst er
    have eC := nI_clamp (n := r) (by omega)
    refine lv_iload_n hx hb dX1_drop_10 rfl (lv_at hl 1 rfl) ?_
    refine lv_istore_n (lv' := [(2, .int (nI r)), (0, .ref (h 0)), (1, .int (nI r))]) hx hb dX1_drop_11 rfl hl (by decide) rfl (fun ls hl => ?_)
    have hP : va_P D vwCl (wM h ca (dropSM M r r)) H := by unfold dropSM; rw [shf_0, shf_0]; exact hP
    have lp : ∀ q, q ≤ mCn M - 1 → r ≤ q → ∀ (H : Heap) (locs : List Loc) (ls : Array Slot), va_P D vwCl (wM h ca (dropSM M r q)) H → va_S A s.heap H locs → lv_has ls 3 [(0, .ref (h 0)), (2, .int (nI q))] → W p l e R s m av below meth c H locs 0 0 Q (F0 m 12 ls []) := by
      refine gp_up (fun q hk_q ih => ?_)
      intro hq1 H locs ls hP hS hl
      refine lv_iload_n hx hb dX1_drop_12 rfl (lv_at hl 1 rfl) ?_
      refine lv_aload_n hx hb dX1_drop_13 rfl (lv_at hl 0 rfl) ?_
      refine gm_f0 X hP dX1_drop_14 ?_
      refine nr_top (y := (nI (mCn M))) rfl ?_
      refine nr_iconst (v := 1) hx hb dX1_drop_17 (by decide +kernel) ?_
      refine nr_isub hx hb dX1_drop_18 (by omega) ?_
      refine nr_icmp_ge (tgt := 62) hx hb dX1_drop_19 (by decide) (by omega) (by omega) (fun c2 => ?_) (fun c2 => ?_)
      · have hq : q = mCn M - 1 := by omega
        rw [hq] at hP
        refine lv_aload_n hx hb dX1_drop_62 rfl (lv_at hl 0 rfl) ?_
        refine lv_dup hx hb dX1_drop_63 rfl ?_
        refine gm_f0 X hP dX1_drop_64 ?_
        refine nr_top (y := (nI (mCn M))) rfl ?_
        refine nr_iconst (v := 1) hx hb dX1_drop_67 (by decide +kernel) ?_
        refine nr_isub hx hb dX1_drop_68 (by omega) ?_
        refine gm_p0 X hP hS dX1_drop_69 (fun H locs hP hS => ?_)
        refine lv_aload_n hx hb dX1_drop_72 rfl (lv_at hl 0 rfl) ?_
        refine gm_f0 X hP dX1_drop_73 ?_
        refine nr_top (y := (nI (mCn M - 1))) rfl ?_
        exact hret _ (sMCn (dropSM M r (mCn M - 1)) (mCn M - 1)) _ _ _ _ dX1_drop_76 rfl hP hS ⟨by rw [dropA, if_pos c1], by rw [dropM, if_pos c1, eC]⟩
      · refine lv_iload_n hx hb dX1_drop_22 rfl (lv_at hl 1 rfl) ?_
        refine nr_bipush (v := 11) hx hb dX1_drop_23 (by decide +kernel) ?_
        refine nr_icmp_ge (tgt := 62) hx hb dX1_drop_25 (by decide) (by omega) (by omega) (fun c3 => ?_) (fun c3 => ?_)
        · exact absurd c3 (by omega)
        · refine lv_aload_n hx hb dX1_drop_28 rfl (lv_at hl 0 rfl) ?_
          refine gm_f1 X hP dX1_drop_29 ?_
          refine lv_iload_n hx hb dX1_drop_32 rfl (lv_at hl 1 rfl) ?_
          refine lv_aload_n hx hb dX1_drop_33 rfl (lv_at hl 0 rfl) ?_
          refine gm_f1 X hP dX1_drop_34 ?_
          refine lv_iload_n hx hb dX1_drop_37 rfl (lv_at hl 1 rfl) ?_
          refine nr_iconst (v := 1) hx hb dX1_drop_38 (by decide +kernel) ?_
          refine nr_iadd hx hb dX1_drop_39 ?_
          refine gm_l1 X hP (by omega) dX1_drop_40 ?_
          refine gm_s1 X hP hS (by omega) dX1_drop_41 (fun H locs hP hS => ?_)
          refine lv_aload_n hx hb dX1_drop_42 rfl (lv_at hl 0 rfl) ?_
          refine gm_f2 X hP dX1_drop_43 ?_
          refine lv_iload_n hx hb dX1_drop_46 rfl (lv_at hl 1 rfl) ?_
          refine lv_aload_n hx hb dX1_drop_47 rfl (lv_at hl 0 rfl) ?_
          refine gm_f2 X hP dX1_drop_48 ?_
          refine lv_iload_n hx hb dX1_drop_51 rfl (lv_at hl 1 rfl) ?_
          refine nr_iconst (v := 1) hx hb dX1_drop_52 (by decide +kernel) ?_
          refine nr_iadd hx hb dX1_drop_53 ?_
          refine gm_l2 X hP (by omega) dX1_drop_54 ?_
          refine gm_s2 X hP hS (by omega) dX1_drop_55 (fun H locs hP hS => ?_)
          have hP : va_P D vwCl (wM h ca (dropSM M r (q + 1))) H := by unfold dropSM; rw [← shf_s hq1, ← shf_s (f := mRt M) hq1]; exact hP
          refine lv_iinc (v := (nI (q + 1))) (lv' := [(2, .int (nI (q + 1))), (0, .ref (h 0))]) hx hb dX1_drop_56 hl (k := 1) rfl (nI_i1 _) (by decide) rfl (fun ls hl => ?_)
          refine lv_goto (tgt := 12) hx hb dX1_drop_59 (by decide) ?_
          exact ih (by omega) (by omega) _ _ _ hP hS (lv_sub hl [1, 0] rfl)
    exact lp r (by omega) (Nat.le_refl _) _ _ _ hP hS (lv_sub hl [1, 0] rfl)
  · have c1 : isR (mCn M) a = false := by cases hw : isR (mCn M) a; rfl; rw [hw] at c1; cases c1
    refine lv_iconst (v := -1) hx hb dX1_drop_8 (by decide +kernel) ?_
    exact hret _ M _ _ _ _ dX1_drop_9 rfl hP hS ⟨by rw [dropA, if_neg (by rw [c1]; exact Bool.false_ne_true)], by rw [dropM, if_neg (by rw [c1]; exact Bool.false_ne_true)]⟩
set_option maxHeartbeats 4000000 in
set_option maxRecDepth 100000 in
theorem mM_clear (l : Launch) (D : va_G) (h : Nat → Nat) (ca : Nat → ClassId) (A : Nat → Prop) (M : MM)  : Met l yX1_clear (ws_ yX1_clear cX1_clear 2 (some .int)) ({ frames := 0, cells := 0, slots := 0, locals := 0 }) (PM D h ca A M []) (va_Qi (fun r u => r = nI (mCn M) ∧ u = sMCn M 0) (BM D h ca) A) 0 0 A := by
  refine gm_enti (by decide) rfl (Nat.le_of_ble_eq_true rfl) ?_
  intro p e s m below meth c R Q hRf hRl X hret H locs ls hP hS hl
  have hx := X.1.1
  have hb := X.1.2.1
  generalize hav : ([.ref (h 0)] : List Value).toArray = av at X hret ⊢
  have hl : lv_has ls 2 [(0, .ref (h 0))] := hl
  refine lv_aload_n hx hb dX1_clear_0 rfl (lv_at hl 0 rfl) ?_
  refine gm_f0 X hP dX1_clear_1 ?_
  refine lv_istore_n (lv' := [(1, .int (nI (mCn M))), (0, .ref (h 0))]) hx hb dX1_clear_4 rfl hl (by decide) rfl (fun ls hl => ?_)
  refine lv_aload_n hx hb dX1_clear_5 rfl (lv_at hl 1 rfl) ?_
  refine nr_iconst (v := 0) hx hb dX1_clear_6 (by decide +kernel) ?_
  refine gm_p0 X hP hS dX1_clear_7 (fun H locs hP hS => ?_)
  refine lv_iload_n hx hb dX1_clear_10 rfl (lv_at hl 0 rfl) ?_
  exact hret _ (sMCn M 0) _ _ _ _ dX1_clear_11 rfl hP hS ⟨rfl, rfl⟩
set_option maxHeartbeats 4000000 in
set_option maxRecDepth 100000 in
theorem mM_push (l : Launch) (D : va_G) (h : Nat → Nat) (ca : Nat → ClassId) (A : Nat → Prop) (M : MM) (a : Int32) (hM : okM M) : Met l yX1_push (ws_ yX1_push cX1_push 2 (some .int)) ({ frames := 0, cells := 0, slots := 0, locals := 0 }) (PM D h ca A M [.int a]) (va_Qi (fun r u => r = pushA a (mLn M) ∧ u = pushM a M) (BM D h ca) A) 0 0 A := by
  refine gm_enti (by decide) rfl (Nat.le_of_ble_eq_true rfl) ?_
  intro p e s m below meth c R Q hRf hRl X hret H locs ls hP hS hl
  have hx := X.1.1
  have hb := X.1.2.1
  generalize hav : ([.ref (h 0), .int a] : List Value).toArray = av at X hret ⊢
  have hl : lv_has ls 2 [(0, .ref (h 0)), (1, .int a)] := hl
  have g1 := hM.2.1
  refine lv_iload_n hx hb dX1_push_0 rfl (lv_at hl 1 rfl) ?_
  refine nr_iconst (v := 5) hx hb dX1_push_1 (by decide +kernel) ?_
  refine lv_icmp_lt (tgt := 11) hx hb dX1_push_2 (by decide) (fun c1 => ?_) (fun c1 => ?_)
  · refine lv_iconst (v := -1) hx hb dX1_push_11 (by decide +kernel) ?_
    have c0 : isL a = false := decide_eq_false (fun z => i32_lt c1 z.1)
    exact hret _ M _ _ _ _ dX1_push_12 rfl hP hS ⟨by rw [pushA, if_neg (by rw [c0]; exact Bool.false_ne_true)], by rw [pushM, if_neg (by rw [c0]; exact Bool.false_ne_true)]⟩
  · refine lv_iload_n hx hb dX1_push_5 rfl (lv_at hl 1 rfl) ?_
    refine nr_bipush (v := 7) hx hb dX1_push_6 (by decide +kernel) ?_
    refine lv_icmp_le (tgt := 13) hx hb dX1_push_8 (by decide) (fun c2 => ?_) (fun c2 => ?_)
    · have c0 : isL a = true := decide_eq_true ⟨i32_nlt c1, c2⟩
      obtain ⟨n, hn1, hn2, en⟩ := isL_of c0
      subst en
      have eC := nI_clamp (n := n) (by omega)
      refine lv_aload_n hx hb dX1_push_13 rfl (lv_at hl 0 rfl) ?_
      refine gm_f3 X hP dX1_push_14 ?_
      refine nr_bipush (v := 7) hx hb dX1_push_17 (by decide +kernel) ?_
      refine nr_icmp_le (tgt := 25) hx hb dX1_push_19 (by decide) (by omega) (by omega) (fun c3 => ?_) (fun c3 => ?_)
      · refine lv_aload_n hx hb dX1_push_25 rfl (lv_at hl 0 rfl) ?_
        refine gm_f4 X hP dX1_push_26 ?_
        refine lv_aload_n hx hb dX1_push_29 rfl (lv_at hl 0 rfl) ?_
        refine gm_f3 X hP dX1_push_30 ?_
        refine lv_iload_n hx hb dX1_push_33 rfl (lv_at hl 1 rfl) ?_
        refine gm_s3 X hP hS (by omega) dX1_push_34 (fun H locs hP hS => ?_)
        refine lv_aload_n hx hb dX1_push_35 rfl (lv_at hl 0 rfl) ?_
        refine lv_dup hx hb dX1_push_36 rfl ?_
        refine gm_f3 X hP dX1_push_37 ?_
        refine nr_top (y := (nI (mLn M))) rfl ?_
        refine nr_iconst (v := 1) hx hb dX1_push_40 (by decide +kernel) ?_
        refine nr_iadd hx hb dX1_push_41 ?_
        refine gm_p3 X hP hS dX1_push_42 (fun H locs hP hS => ?_)
        refine lv_aload_n hx hb dX1_push_45 rfl (lv_at hl 0 rfl) ?_
        refine gm_f3 X hP dX1_push_46 ?_
        refine nr_top (y := (nI (mLn M + 1))) rfl ?_
        exact hret _ (sMLn (sMTx M (va_up (mTx M) (mLn M) n)) (mLn M + 1)) _ _ _ _ dX1_push_49 rfl hP hS ⟨by rw [pushA, if_pos c0, if_neg (by omega)], by rw [pushM, if_pos c0, if_neg (by omega), eC]⟩
      · refine lv_bipush (v := -2) hx hb dX1_push_22 (by decide +kernel) ?_
        exact hret _ M _ _ _ _ dX1_push_24 rfl hP hS ⟨by rw [pushA, if_pos c0, if_pos (by omega)], by rw [pushM, if_pos c0, if_pos (by omega)]⟩
    · refine lv_iconst (v := -1) hx hb dX1_push_11 (by decide +kernel) ?_
      have c0 : isL a = false := decide_eq_false (fun z => c2 z.2)
      exact hret _ M _ _ _ _ dX1_push_12 rfl hP hS ⟨by rw [pushA, if_neg (by rw [c0]; exact Bool.false_ne_true)], by rw [pushM, if_neg (by rw [c0]; exact Bool.false_ne_true)]⟩
set_option maxHeartbeats 4000000 in
set_option maxRecDepth 100000 in
theorem mM_pop (l : Launch) (D : va_G) (h : Nat → Nat) (ca : Nat → ClassId) (A : Nat → Prop) (M : MM) (hM : okM M) : Met l yX1_pop (ws_ yX1_pop cX1_pop 1 (some .int)) ({ frames := 0, cells := 0, slots := 0, locals := 0 }) (PM D h ca A M []) (va_Qi (fun r u => r = popA (mTx M) (mLn M) ∧ u = popM M) (BM D h ca) A) 0 0 A := by
  refine gm_enti (by decide) rfl (Nat.le_of_ble_eq_true rfl) ?_
  intro p e s m below meth c R Q hRf hRl X hret H locs ls hP hS hl
  have hx := X.1.1
  have hb := X.1.2.1
  generalize hav : ([.ref (h 0)] : List Value).toArray = av at X hret ⊢
  have hl : lv_has ls 1 [(0, .ref (h 0))] := hl
  have g1 := hM.2.1
  refine lv_aload_n hx hb dX1_pop_0 rfl (lv_at hl 0 rfl) ?_
  refine gm_f3 X hP dX1_pop_1 ?_
  refine nr_if_ne (tgt := 9) hx hb dX1_pop_4 (by decide) (by omega) (fun c1 => ?_) (fun c1 => ?_)
  · have g2 := hM.2.2.2 (mLn M - 1) (by omega)
    refine lv_aload_n hx hb dX1_pop_9 rfl (lv_at hl 0 rfl) ?_
    refine lv_dup hx hb dX1_pop_10 rfl ?_
    refine gm_f3 X hP dX1_pop_11 ?_
    refine nr_iconst (v := 1) hx hb dX1_pop_14 (by decide +kernel) ?_
    refine nr_isub hx hb dX1_pop_15 (by omega) ?_
    refine gm_p3 X hP hS dX1_pop_16 (fun H locs hP hS => ?_)
    refine lv_aload_n hx hb dX1_pop_19 rfl (lv_at hl 0 rfl) ?_
    refine gm_f4 X hP dX1_pop_20 ?_
    refine lv_aload_n hx hb dX1_pop_23 rfl (lv_at hl 0 rfl) ?_
    refine gm_f3 X hP dX1_pop_24 ?_
    refine nr_top (y := (nI (mLn M - 1))) rfl ?_
    refine gm_l3 X hP (by omega) dX1_pop_27 ?_
    refine nr_top (y := (nI (mTx M (mLn M - 1)))) rfl ?_
    exact hret _ (sMLn M (mLn M - 1)) _ _ _ _ dX1_pop_28 rfl hP hS ⟨by rw [popA, if_neg c1], by rw [popM, if_neg c1]⟩
  · refine lv_iconst (v := -1) hx hb dX1_pop_7 (by decide +kernel) ?_
    exact hret _ M _ _ _ _ dX1_pop_8 rfl hP hS ⟨by rw [popA, if_pos c1], by rw [popM, if_pos c1]⟩
set_option maxHeartbeats 4000000 in
set_option maxRecDepth 100000 in
theorem mM_write (l : Launch) (D : va_G) (h : Nat → Nat) (ca : Nat → ClassId) (A : Nat → Prop) (M : MM) (a b : Int32) : Met l yX1_write (ws_ yX1_write cX1_write 6 (some .int)) ({ frames := 0, cells := 0, slots := 0, locals := 0 }) (PM D h ca A M [.int a, .int b]) (va_Qi (fun r u => r = writeA a b ∧ u = writeM a b M) (BM D h ca) A) 0 0 A := by
  refine gm_enti (by decide) rfl (Nat.le_of_ble_eq_true rfl) ?_
  intro p e s m below meth c R Q hRf hRl X hret H locs ls hP hS hl
  have hx := X.1.1
  have hb := X.1.2.1
  generalize hav : ([.ref (h 0), .int a, .int b] : List Value).toArray = av at X hret ⊢
  have hl : lv_has ls 6 [(0, .ref (h 0)), (1, .int a), (2, .int b)] := hl
  refine lv_iload_n hx hb dX1_write_0 rfl (lv_at hl 1 rfl) ?_
  refine lv_if_lt (tgt := 10) hx hb dX1_write_1 (by decide) (fun c1 => ?_) (fun c1 => ?_)
  · refine lv_iconst (v := -1) hx hb dX1_write_10 (by decide +kernel) ?_
    have c0 : is8 a = false := decide_eq_false (fun z => i32_lt c1 z.1)
    exact hret _ M _ _ _ _ dX1_write_11 rfl hP hS ⟨by rw [writeA, if_neg (by rw [c0]; exact Bool.false_ne_true)], by rw [writeM, if_neg (by rw [c0]; exact Bool.false_ne_true)]⟩
  · refine lv_iload_n hx hb dX1_write_4 rfl (lv_at hl 1 rfl) ?_
    refine nr_bipush (v := 8) hx hb dX1_write_5 (by decide +kernel) ?_
    refine lv_icmp_le (tgt := 12) hx hb dX1_write_7 (by decide) (fun c2 => ?_) (fun c2 => ?_)
    · have c0 : is8 a = true := decide_eq_true ⟨i32_nlt c1, c2⟩
      obtain ⟨n, hn, en⟩ := is8_of c0
      subst en
      have eC := nI_clamp (n := n) (by omega)
      have hp := pw3 hn
      refine nr_iconst (v := 1) hx hb dX1_write_12 (by decide +kernel) ?_
      refine lv_istore_n (lv' := [(3, .int (nI 1)), (0, .ref (h 0)), (1, .int (nI n)), (2, .int b)]) hx hb dX1_write_13 rfl hl (by decide) rfl (fun ls hl => ?_)
      refine nr_iconst (v := 0) hx hb dX1_write_14 (by decide +kernel) ?_
      refine lv_istore (lv' := [(4, .int (nI 0)), (3, .int (nI 1)), (0, .ref (h 0)), (1, .int (nI n)), (2, .int b)]) hx hb dX1_write_15 hl (by decide) rfl (fun ls hl => ?_)
      have hl : lv_has ls 6 [(4, .int (nI 0)), (3, .int (nI (3 ^ 0))), (0, .ref (h 0)), (1, .int (nI n)), (2, .int b)] := hl
      have lp : ∀ k, k ≤ n → ∀ (H : Heap) (locs : List Loc) (ls : Array Slot), va_P D vwCl (wM h ca M) H → va_S A s.heap H locs → lv_has ls 6 [(0, .ref (h 0)), (1, .int (nI n)), (2, .int b), (3, .int (nI (3 ^ k))), (4, .int (nI k))] → W p l e R s m av below meth c H locs 0 0 Q (F0 m 17 ls []) := by
        refine gp_up (fun k hk_k ih => ?_)
        intro H locs ls hP hS hl
        have hpk : 3 ^ k ≤ 6561 := pw3 (by omega)
        refine lv_iload hx hb dX1_write_17 (lv_at hl 4 rfl) ?_
        refine lv_iload_n hx hb dX1_write_19 rfl (lv_at hl 1 rfl) ?_
        refine nr_icmp_ge (tgt := 33) hx hb dX1_write_20 (by decide) (by omega) (by omega) (fun e1 => ?_) (fun e1 => ?_)
        · have hk : k = n := by omega
          rw [hk] at hl
          refine lv_iload_n hx hb dX1_write_33 rfl (lv_at hl 2 rfl) ?_
          refine lv_if_lt (tgt := 42) hx hb dX1_write_34 (by decide) (fun c3 => ?_) (fun c3 => ?_)
          · refine lv_bipush (v := -2) hx hb dX1_write_42 (by decide +kernel) ?_
            have c5 : isR (3 ^ n) b = false := decide_eq_false (fun z => i32_lt c3 z.1)
            exact hret _ M _ _ _ _ dX1_write_44 rfl hP hS ⟨by rw [writeA, if_pos c0, eC, if_neg (by rw [c5]; exact Bool.false_ne_true)], by rw [writeM, if_pos c0, eC, if_neg (by rw [c5]; exact Bool.false_ne_true)]⟩
          · refine lv_iload_n hx hb dX1_write_37 rfl (lv_at hl 2 rfl) ?_
            refine lv_iload_n hx hb dX1_write_38 rfl (lv_at hl 3 rfl) ?_
            refine lv_icmp_lt (tgt := 45) hx hb dX1_write_39 (by decide) (fun c4 => ?_) (fun c4 => ?_)
            · have c5 : isR (3 ^ n) b = true := decide_eq_true ⟨i32_nlt c3, c4⟩
              obtain ⟨cd, hcd, ecd⟩ := i32_ofl (by omega) (i32_nlt c3) c4
              subst ecd
              have eD := nI_clamp (n := cd) (by omega)
              refine lv_iload_n hx hb dX1_write_45 rfl (lv_at hl 2 rfl) ?_
              refine lv_istore (lv' := [(4, .int (nI cd)), (0, .ref (h 0)), (1, .int (nI n)), (2, .int (nI cd)), (3, .int (nI (3 ^ n)))]) hx hb dX1_write_46 hl (by decide) rfl (fun ls hl => ?_)
              refine lv_iload_n hx hb dX1_write_48 rfl (lv_at hl 2 rfl) ?_
              refine nr_iconst (v := 1) hx hb dX1_write_49 (by decide +kernel) ?_
              refine lv_isub hx hb dX1_write_50 ?_
              refine lv_istore (lv' := [(5, .int (nI n - nI 1)), (4, .int (nI cd)), (0, .ref (h 0)), (1, .int (nI n)), (2, .int (nI cd)), (3, .int (nI (3 ^ n)))]) hx hb dX1_write_51 hl (by decide) rfl (fun ls hl => ?_)
              have hP : va_P D vwCl (wM h ca (sMTx M (mTx M))) H := hP
              have lp2 : ∀ j : Nat, ∀ (rest : Nat) (f : Nat → Nat), j ≤ n → rest < 6561 → wrF f rest j = wrF (mTx M) cd n → ∀ (H : Heap) (locs : List Loc) (ls : Array Slot), va_P D vwCl (wM h ca (sMTx M f)) H → va_S A s.heap H locs → lv_has ls 6 [(0, .ref (h 0)), (1, .int (nI n)), (4, .int (nI rest)), (5, .int (nI j - nI 1))] → W p l e R s m av below meth c H locs 0 0 Q (F0 m 53 ls []) := by
                refine gp_dn (fun j ih2 => ?_)
                intro rest f hj hre hfd H locs ls hP hS hl
                refine lv_iload hx hb dX1_write_53 (lv_at hl 3 rfl) ?_
                refine nr_if_lt_m (tgt := 83) hx hb dX1_write_55 (by decide) (by omega) (fun c6 => ?_) (fun c6 => ?_)
                · subst c6
                  have hf : f = wrF (mTx M) cd n := hfd
                  subst hf
                  have hl : lv_has ls 6 [(0, .ref (h 0)), (1, .int (nI n)), (4, .int (nI rest))] := lv_sub hl [0, 1, 2] rfl
                  refine lv_aload_n hx hb dX1_write_83 rfl (lv_at hl 0 rfl) ?_
                  refine lv_iload_n hx hb dX1_write_84 rfl (lv_at hl 1 rfl) ?_
                  refine gm_p3 X hP hS dX1_write_85 (fun H locs hP hS => ?_)
                  refine lv_iload_n hx hb dX1_write_88 rfl (lv_at hl 1 rfl) ?_
                  exact hret _ (sMLn (sMTx M (wrF (mTx M) cd n)) n) _ _ _ _ dX1_write_89 rfl hP hS ⟨by rw [writeA, if_pos c0, eC, if_pos c5], by rw [writeM, if_pos c0, eC, if_pos c5, eD]⟩
                · obtain ⟨i, ei⟩ : ∃ i, j = i + 1 := ⟨j - 1, by omega⟩
                  subst ei
                  refine lv_aload_n hx hb dX1_write_58 rfl (lv_at hl 0 rfl) ?_
                  refine gm_f4 X hP dX1_write_59 ?_
                  refine lv_iload hx hb dX1_write_62 (lv_at hl 3 rfl) ?_
                  refine nr_top (y := (nI i)) (nI_m1 i) ?_
                  refine nr_iconst (v := 5) hx hb dX1_write_64 (by decide +kernel) ?_
                  refine lv_iload hx hb dX1_write_65 (lv_at hl 2 rfl) ?_
                  refine nr_iconst (v := 3) hx hb dX1_write_67 (by decide +kernel) ?_
                  refine nr_irem hx hb dX1_write_68 (by omega) (by omega) (by omega) ?_
                  refine nr_iadd hx hb dX1_write_69 ?_
                  refine gm_s3 X hP hS (by omega) dX1_write_70 (fun H locs hP hS => ?_)
                  refine lv_iload hx hb dX1_write_71 (lv_at hl 2 rfl) ?_
                  refine nr_iconst (v := 3) hx hb dX1_write_73 (by decide +kernel) ?_
                  refine nr_idiv hx hb dX1_write_74 (by omega) (by omega) (by omega) ?_
                  refine lv_istore (lv' := [(4, .int (nI (rest / 3))), (0, .ref (h 0)), (1, .int (nI n)), (5, .int (nI (i + 1) - nI 1))]) hx hb dX1_write_75 hl (by decide) rfl (fun ls hl => ?_)
                  have hP : va_P D vwCl (wM h ca (sMTx M (va_up f i (5 + rest % 3)))) H := hP
                  refine lv_iinc (v := (nI i - nI 1)) (lv' := [(5, .int (nI i - nI 1)), (4, .int (nI (rest / 3))), (0, .ref (h 0)), (1, .int (nI n))]) hx hb dX1_write_77 hl (k := 3) rfl (nI_id _) (by decide) rfl (fun ls hl => ?_)
                  refine lv_goto (tgt := 53) hx hb dX1_write_80 (by decide) ?_
                  exact ih2 i rfl (rest / 3) (va_up f i (5 + rest % 3)) (by omega) (by omega) hfd _ _ _ hP hS (lv_sub hl [2, 3, 1, 0] rfl)
              exact lp2 n cd (mTx M) (Nat.le_refl _) (by omega) rfl _ _ _ hP hS (lv_sub hl [2, 3, 1, 0] rfl)
            · refine lv_bipush (v := -2) hx hb dX1_write_42 (by decide +kernel) ?_
              have c5 : isR (3 ^ n) b = false := decide_eq_false (fun z => c4 z.2)
              exact hret _ M _ _ _ _ dX1_write_44 rfl hP hS ⟨by rw [writeA, if_pos c0, eC, if_neg (by rw [c5]; exact Bool.false_ne_true)], by rw [writeM, if_pos c0, eC, if_neg (by rw [c5]; exact Bool.false_ne_true)]⟩
        · refine nr_iconst (v := 3) hx hb dX1_write_23 (by decide +kernel) ?_
          refine lv_iload_n hx hb dX1_write_24 rfl (lv_at hl 3 rfl) ?_
          refine nr_imul hx hb dX1_write_25 ?_
          refine nr_top (y := (nI (3 ^ (k + 1)))) (by rw [Nat.pow_succ, Nat.mul_comm]) ?_
          refine lv_istore_n (lv' := [(3, .int (nI (3 ^ (k + 1)))), (0, .ref (h 0)), (1, .int (nI n)), (2, .int b), (4, .int (nI k))]) hx hb dX1_write_26 rfl hl (by decide) rfl (fun ls hl => ?_)
          refine lv_iinc (v := (nI (k + 1))) (lv' := [(4, .int (nI (k + 1))), (3, .int (nI (3 ^ (k + 1)))), (0, .ref (h 0)), (1, .int (nI n)), (2, .int b)]) hx hb dX1_write_27 hl (k := 4) rfl (nI_i1 _) (by decide) rfl (fun ls hl => ?_)
          refine lv_goto (tgt := 17) hx hb dX1_write_30 (by decide) ?_
          exact ih (by omega) _ _ _ hP hS (lv_sub hl [2, 3, 4, 1, 0] rfl)
      exact lp 0 (Nat.zero_le _) _ _ _ hP hS (lv_sub hl [2, 3, 4, 1, 0] rfl)
    · refine lv_iconst (v := -1) hx hb dX1_write_10 (by decide +kernel) ?_
      have c0 : is8 a = false := decide_eq_false (fun z => c2 z.2)
      exact hret _ M _ _ _ _ dX1_write_11 rfl hP hS ⟨by rw [writeA, if_neg (by rw [c0]; exact Bool.false_ne_true)], by rw [writeM, if_neg (by rw [c0]; exact Bool.false_ne_true)]⟩
end
section
/-! the table of the reference: fill, fillAll, work -/
set_option maxHeartbeats 4000000 in
set_option maxRecDepth 100000 in
theorem mM_fill (l : Launch) (D : va_G) (h : Nat → Nat) (ca : Nat → ClassId) (A : Nat → Prop) (M : MM) (r : Nat) (hM : okM M) (hr : r < mCn M) : Met l yX1_fill (ws_ yX1_fill cX1_fill 6 (some .boolean)) ({ frames := 3, cells := 0, slots := 0, locals := 75 }) (PM D h ca A M [.int (nI r)]) (va_Qi (fun b u => ∃ fr T, b = nI fr ∧ u = sMT M T ∧ fillQ M r fr T) (BM D h ca) A) 0 0 A := by
  refine gm_enti (by decide) rfl (Nat.le_of_ble_eq_true rfl) ?_
  intro p e s m below meth c R Q hRf hRl X hret H locs ls hP hS hl
  have hx := X.1.1
  have hb := X.1.2.1
  generalize hav : ([.ref (h 0), .int (nI r)] : List Value).toArray = av at X hret ⊢
  have hl : lv_has ls 6 [(0, .ref (h 0)), (1, .int (nI r))] := hl
  have g1 := hM.1
  have g2 := hM.2.1
  obtain ⟨g3, g4⟩ := hM.2.2.1 r hr
  refine nr_iconst (v := 0) hx hb dX1_fill_0 (by decide +kernel) ?_
  refine lv_istore_n (lv' := [(2, .int (nI 0)), (0, .ref (h 0)), (1, .int (nI r))]) hx hb dX1_fill_1 rfl hl (by decide) rfl (fun ls hl => ?_)
  refine nr_iconst (v := 0) hx hb dX1_fill_2 (by decide +kernel) ?_
  refine lv_istore_n (lv' := [(3, .int (nI 0)), (2, .int (nI 0)), (0, .ref (h 0)), (1, .int (nI r))]) hx hb dX1_fill_3 rfl hl (by decide) rfl (fun ls hl => ?_)
  have hP : va_P D vwCl (wM h ca (sMT M (mT M))) H := hP
  have lp : ∀ i, i ≤ mLn M + 1 → ∀ (T : Nat → Bool) (fr : Nat), fillI M r i 0 fr T → ∀ (H : Heap) (locs : List Loc) (ls : Array Slot), va_P D vwCl (wM h ca (sMT M T)) H → va_S A s.heap H locs → lv_has ls 6 [(0, .ref (h 0)), (1, .int (nI r)), (2, .int (nI fr)), (3, .int (nI i))] → W p l e R s m av below meth c H locs 0 0 Q (F0 m 4 ls []) := by
    refine gp_up (fun i hk_i ih => ?_)
    intro T fr hI H locs ls hP hS hl
    refine lv_iload_n hx hb dX1_fill_4 rfl (lv_at hl 3 rfl) ?_
    refine lv_aload_n hx hb dX1_fill_5 rfl (lv_at hl 0 rfl) ?_
    refine gm_f3 X hP dX1_fill_6 ?_
    refine nr_top (y := (nI (mLn M))) rfl ?_
    refine nr_icmp_gt (tgt := 104) hx hb dX1_fill_9 (by decide) (by omega) (by omega) (fun c1 => ?_) (fun c1 => ?_)
    · refine lv_iload_n hx hb dX1_fill_104 rfl (lv_at hl 2 rfl) ?_
      exact hret _ (sMT M T) _ _ _ _ dX1_fill_105 (nar01 (fillI_1 hI)) hP hS ⟨fr, T, rfl, rfl, fillI_e c1 hI⟩
    · refine lv_iload_n hx hb dX1_fill_12 rfl (lv_at hl 3 rfl) ?_
      refine nr_bipush (v := 9) hx hb dX1_fill_13 (by decide +kernel) ?_
      refine nr_icmp_ge (tgt := 104) hx hb dX1_fill_15 (by decide) (by omega) (by omega) (fun c2 => ?_) (fun c2 => ?_)
      · exact absurd c2 (by omega)
      · refine lv_iload_n hx hb dX1_fill_18 rfl (lv_at hl 3 rfl) ?_
        refine lv_istore (lv' := [(4, .int (nI i)), (0, .ref (h 0)), (1, .int (nI r)), (2, .int (nI fr)), (3, .int (nI i))]) hx hb dX1_fill_19 hl (by decide) rfl (fun ls hl => ?_)
        have lp2 : ∀ j, j ≤ mLn M + 1 → ∀ (T2 : Nat → Bool) (f2 : Nat), i ≤ j → fillI M r i j f2 T2 → ∀ (H : Heap) (locs : List Loc) (ls : Array Slot), va_P D vwCl (wM h ca (sMT M T2)) H → va_S A s.heap H locs → lv_has ls 6 [(0, .ref (h 0)), (1, .int (nI r)), (2, .int (nI f2)), (3, .int (nI i)), (4, .int (nI j))] → W p l e R s m av below meth c H locs 0 0 Q (F0 m 21 ls []) := by
          refine gp_up (fun j hk_j ih2 => ?_)
          intro T2 f2 hij hI2 H locs ls hP hS hl
          refine lv_iload hx hb dX1_fill_21 (lv_at hl 4 rfl) ?_
          refine lv_aload_n hx hb dX1_fill_23 rfl (lv_at hl 0 rfl) ?_
          refine gm_f3 X hP dX1_fill_24 ?_
          refine nr_top (y := (nI (mLn M))) rfl ?_
          refine nr_icmp_gt (tgt := 98) hx hb dX1_fill_27 (by decide) (by omega) (by omega) (fun c3 => ?_) (fun c3 => ?_)
          · refine lv_iinc (v := (nI (i + 1))) (lv' := [(3, .int (nI (i + 1))), (0, .ref (h 0)), (1, .int (nI r)), (2, .int (nI f2)), (4, .int (nI j))]) hx hb dX1_fill_98 hl (k := 3) rfl (nI_i1 _) (by decide) rfl (fun ls hl => ?_)
            refine lv_goto (tgt := 4) hx hb dX1_fill_101 (by decide) ?_
            exact ih (by omega) T2 f2 (fillI_n c3 hI2) _ _ _ hP hS (lv_sub hl [1, 2, 3, 0] rfl)
          · refine lv_iload hx hb dX1_fill_30 (lv_at hl 4 rfl) ?_
            refine nr_bipush (v := 9) hx hb dX1_fill_32 (by decide +kernel) ?_
            refine nr_icmp_ge (tgt := 98) hx hb dX1_fill_34 (by decide) (by omega) (by omega) (fun c4 => ?_) (fun c4 => ?_)
            · exact absurd c4 (by omega)
            · refine nr_bipush (v := 81) hx hb dX1_fill_37 (by decide +kernel) ?_
              refine lv_aload_n hx hb dX1_fill_39 rfl (lv_at hl 0 rfl) ?_
              refine gm_f1 X hP dX1_fill_40 ?_
              refine lv_iload_n hx hb dX1_fill_43 rfl (lv_at hl 1 rfl) ?_
              refine gm_l1 X hP (by omega) dX1_fill_44 ?_
              refine nr_top (y := (nI (mLf M r))) rfl ?_
              refine nr_imul hx hb dX1_fill_45 ?_
              refine nr_bipush (v := 9) hx hb dX1_fill_46 (by decide +kernel) ?_
              refine lv_iload_n hx hb dX1_fill_48 rfl (lv_at hl 3 rfl) ?_
              refine nr_imul hx hb dX1_fill_49 ?_
              refine nr_iadd hx hb dX1_fill_50 ?_
              refine lv_iload hx hb dX1_fill_51 (lv_at hl 4 rfl) ?_
              refine nr_iadd hx hb dX1_fill_53 ?_
              refine lv_istore (lv' := [(5, .int (nI (((81 * mLf M r) + (9 * i)) + j))), (0, .ref (h 0)), (1, .int (nI r)), (2, .int (nI f2)), (3, .int (nI i)), (4, .int (nI j))]) hx hb dX1_fill_54 hl (by decide) rfl (fun ls hl => ?_)
              refine lv_aload_n hx hb dX1_fill_56 rfl (lv_at hl 1 rfl) ?_
              refine gm_f5 X hP dX1_fill_57 ?_
              refine lv_iload hx hb dX1_fill_60 (lv_at hl 0 rfl) ?_
              refine gm_l4 X hP (by omega) dX1_fill_62 ?_
              refine nr_if_ne_b (tgt := 92) hx hb dX1_fill_63 (by decide) (fun c5 => ?_) (fun c5 => ?_)
              · refine lv_iinc (v := (nI (j + 1))) (lv' := [(4, .int (nI (j + 1))), (5, .int (nI (((81 * mLf M r) + (9 * i)) + j))), (0, .ref (h 0)), (1, .int (nI r)), (2, .int (nI f2)), (3, .int (nI i))]) hx hb dX1_fill_92 hl (k := 5) rfl (nI_i1 _) (by decide) rfl (fun ls hl => ?_)
                refine lv_goto (tgt := 21) hx hb dX1_fill_95 (by decide) ?_
                exact ih2 (by omega) T2 f2 (by omega) (fillI_s hI2 (fun _ => c5)) _ _ _ hP hS (lv_sub hl [2, 3, 4, 5, 0] rfl)
              · refine lv_aload_n hx hb dX1_fill_66 rfl (lv_at hl 1 rfl) ?_
                refine lv_aload_n hx hb dX1_fill_67 rfl (lv_at hl 1 rfl) ?_
                refine gm_f2 X hP dX1_fill_68 ?_
                refine lv_iload_n hx hb dX1_fill_71 rfl (lv_at hl 2 rfl) ?_
                refine gm_l2 X hP (by omega) dX1_fill_72 ?_
                refine nr_top (y := (nI (mRt M r))) rfl ?_
                refine lv_iload_n hx hb dX1_fill_73 rfl (lv_at hl 4 rfl) ?_
                refine lv_iload hx hb dX1_fill_74 (lv_at hl 5 rfl) ?_
                refine gm_callS X (rest := []) (As := [.int (nI (mRt M r)), .int (nI i), .int (nI j)]) (n := 3) (mM_rowFits l D h ca A (sMT M T2) (mRt M r) i j (show okM (sMT M T2) from hM) g4 hij c3) (lw_V q278 q280 qs17 q24 q281) (by decide +kernel) ⟨by omega, by omega⟩ hP hS rfl hl.1 rfl (Nat.le_of_ble_eq_true rfl) dX1_fill_76 (fun rr hrr => ?_)
                subst hrr
                refine nr_if_eq_b (tgt := 92) hx hb dX1_fill_79 (by decide) (fun c6 => ?_) (fun c6 => ?_)
                · refine lv_iinc (v := (nI (j + 1))) (lv' := [(4, .int (nI (j + 1))), (5, .int (nI (((81 * mLf M r) + (9 * i)) + j))), (0, .ref (h 0)), (1, .int (nI r)), (2, .int (nI f2)), (3, .int (nI i))]) hx hb dX1_fill_92 hl (k := 5) rfl (nI_i1 _) (by decide) rfl (fun ls hl => ?_)
                  refine lv_goto (tgt := 21) hx hb dX1_fill_95 (by decide) ?_
                  exact ih2 (by omega) T2 f2 (by omega) (fillI_s hI2 (fun z => absurd (cl_t z) (by rw [c6]; exact Bool.false_ne_true))) _ _ _ hP hS (lv_sub hl [2, 3, 4, 5, 0] rfl)
                · refine lv_aload_n hx hb dX1_fill_82 rfl (lv_at hl 1 rfl) ?_
                  refine gm_f5 X hP dX1_fill_83 ?_
                  refine lv_iload hx hb dX1_fill_86 (lv_at hl 0 rfl) ?_
                  refine nr_iconst (v := 1) hx hb dX1_fill_88 (by decide +kernel) ?_
                  refine gm_s4 X hP hS true (by omega) rfl dX1_fill_89 (fun H locs hP hS => ?_)
                  have hP : va_P D vwCl (wM h ca (sMT M (va_up T2 (81 * mLf M r + 9 * i + j) true))) H := hP
                  refine nr_iconst (v := 1) hx hb dX1_fill_90 (by decide +kernel) ?_
                  refine lv_istore_n (lv' := [(2, .int (nI 1)), (5, .int (nI (((81 * mLf M r) + (9 * i)) + j))), (0, .ref (h 0)), (1, .int (nI r)), (3, .int (nI i)), (4, .int (nI j))]) hx hb dX1_fill_91 rfl hl (by decide) rfl (fun ls hl => ?_)
                  refine lv_iinc (v := (nI (j + 1))) (lv' := [(4, .int (nI (j + 1))), (2, .int (nI 1)), (5, .int (nI (((81 * mLf M r) + (9 * i)) + j))), (0, .ref (h 0)), (1, .int (nI r)), (3, .int (nI i))]) hx hb dX1_fill_92 hl (k := 5) rfl (nI_i1 _) (by decide) rfl (fun ls hl => ?_)
                  refine lv_goto (tgt := 21) hx hb dX1_fill_95 (by decide) ?_
                  exact ih2 (by omega) (va_up T2 (81 * mLf M r + 9 * i + j) true) 1 (by omega) (fillI_t hM hr hij c3 hI2 c5 (cl_iff.mp c6)) _ _ _ hP hS (lv_sub hl [3, 4, 1, 5, 0] rfl)
        exact lp2 i (by omega) T fr (Nat.le_refl _) (fillI_i hI) _ _ _ hP hS (lv_sub hl [1, 2, 3, 4, 0] rfl)
  exact lp 0 (Nat.zero_le _) (mT M) 0 (fillI_0 M r) _ _ _ hP hS (lv_sub hl [2, 3, 1, 0] rfl)
set_option maxHeartbeats 4000000 in
set_option maxRecDepth 100000 in
theorem mM_fillAll (l : Launch) (D : va_G) (h : Nat → Nat) (ca : Nat → ClassId) (A : Nat → Prop) (M : MM) (hM : okM M) : Met l yX1_fillAll (ws_ yX1_fillAll cX1_fillAll 3 (some .boolean)) ({ frames := 4, cells := 0, slots := 0, locals := 100 }) (PM D h ca A M []) (va_Qi (fun b u => ∃ fr T, b = nI fr ∧ u = sMT M T ∧ allI M (mCn M) fr T) (BM D h ca) A) 0 0 A := by
  refine gm_enti (by decide) rfl (Nat.le_of_ble_eq_true rfl) ?_
  intro p e s m below meth c R Q hRf hRl X hret H locs ls hP hS hl
  have hx := X.1.1
  have hb := X.1.2.1
  generalize hav : ([.ref (h 0)] : List Value).toArray = av at X hret ⊢
  have hl : lv_has ls 3 [(0, .ref (h 0))] := hl
  have g1 := hM.1
  refine nr_iconst (v := 0) hx hb dX1_fillAll_0 (by decide +kernel) ?_
  refine lv_istore_n (lv' := [(1, .int (nI 0)), (0, .ref (h 0))]) hx hb dX1_fillAll_1 rfl hl (by decide) rfl (fun ls hl => ?_)
  refine nr_iconst (v := 0) hx hb dX1_fillAll_2 (by decide +kernel) ?_
  refine lv_istore_n (lv' := [(2, .int (nI 0)), (1, .int (nI 0)), (0, .ref (h 0))]) hx hb dX1_fillAll_3 rfl hl (by decide) rfl (fun ls hl => ?_)
  have hP : va_P D vwCl (wM h ca (sMT M (mT M))) H := hP
  have lp : ∀ r, r ≤ mCn M → ∀ (T : Nat → Bool) (fr : Nat), allI M r fr T → ∀ (H : Heap) (locs : List Loc) (ls : Array Slot), va_P D vwCl (wM h ca (sMT M T)) H → va_S A s.heap H locs → lv_has ls 3 [(0, .ref (h 0)), (1, .int (nI fr)), (2, .int (nI r))] → W p l e R s m av below meth c H locs 0 0 Q (F0 m 4 ls []) := by
    refine gp_up (fun r hk_r ih => ?_)
    intro T fr hI H locs ls hP hS hl
    refine lv_iload_n hx hb dX1_fillAll_4 rfl (lv_at hl 2 rfl) ?_
    refine lv_aload_n hx hb dX1_fillAll_5 rfl (lv_at hl 0 rfl) ?_
    refine gm_f0 X hP dX1_fillAll_6 ?_
    refine nr_top (y := (nI (mCn M))) rfl ?_
    refine nr_icmp_ge (tgt := 34) hx hb dX1_fillAll_9 (by decide) (by omega) (by omega) (fun c1 => ?_) (fun c1 => ?_)
    · have hr : r = mCn M := by omega
      subst hr
      refine lv_iload_n hx hb dX1_fillAll_34 rfl (lv_at hl 1 rfl) ?_
      exact hret _ (sMT M T) _ _ _ _ dX1_fillAll_35 (nar01 (allI_1 hI)) hP hS ⟨fr, T, rfl, rfl, hI⟩
    · refine lv_iload_n hx hb dX1_fillAll_12 rfl (lv_at hl 2 rfl) ?_
      refine nr_bipush (v := 12) hx hb dX1_fillAll_13 (by decide +kernel) ?_
      refine nr_icmp_ge (tgt := 34) hx hb dX1_fillAll_15 (by decide) (by omega) (by omega) (fun c2 => ?_) (fun c2 => ?_)
      · exact absurd c2 (by omega)
      · refine lv_aload_n hx hb dX1_fillAll_18 rfl (lv_at hl 0 rfl) ?_
        refine lv_iload_n hx hb dX1_fillAll_19 rfl (lv_at hl 2 rfl) ?_
        refine gm_calli X (rest := []) (As := [.int (nI r)]) (n := 1) (mM_fill l D h ca A (sMT M T) r (show okM (sMT M T) from hM) c1) (lw_V q274 q276 qs16 q24 q277) (by decide +kernel) ⟨by omega, by omega⟩ hP hS rfl hl.1 rfl (Nat.le_of_ble_eq_true rfl) dX1_fillAll_20 (fun rr u H locs hu hP hS => ?_)
        obtain ⟨f, T2, hrr, hu2, hQ⟩ := hu
        subst hrr
        subst hu2
        have hP : va_P D vwCl (wM h ca (sMT M T2)) H := hP
        have hf := fillQ_1 hQ
        have hA := allI_s hI hQ
        refine nr_if_eq (tgt := 28) hx hb dX1_fillAll_23 (by decide) (by omega) (fun c3 => ?_) (fun c3 => ?_)
        · rw [if_pos c3] at hA
          refine lv_iinc (v := (nI (r + 1))) (lv' := [(2, .int (nI (r + 1))), (0, .ref (h 0)), (1, .int (nI fr))]) hx hb dX1_fillAll_28 hl (k := 2) rfl (nI_i1 _) (by decide) rfl (fun ls hl => ?_)
          refine lv_goto (tgt := 4) hx hb dX1_fillAll_31 (by decide) ?_
          exact ih c1 T2 fr hA _ _ _ hP hS (lv_sub hl [1, 2, 0] rfl)
        · rw [if_neg c3] at hA
          refine nr_iconst (v := 1) hx hb dX1_fillAll_26 (by decide +kernel) ?_
          refine lv_istore_n (lv' := [(1, .int (nI 1)), (0, .ref (h 0)), (2, .int (nI r))]) hx hb dX1_fillAll_27 rfl hl (by decide) rfl (fun ls hl => ?_)
          refine lv_iinc (v := (nI (r + 1))) (lv' := [(2, .int (nI (r + 1))), (1, .int (nI 1)), (0, .ref (h 0))]) hx hb dX1_fillAll_28 hl (k := 2) rfl (nI_i1 _) (by decide) rfl (fun ls hl => ?_)
          refine lv_goto (tgt := 4) hx hb dX1_fillAll_31 (by decide) ?_
          exact ih c1 T2 1 hA _ _ _ hP hS (lv_sub hl [2, 1, 0] rfl)
  exact lp 0 (Nat.zero_le _) (mT M) 0 (allI_0 M) _ _ _ hP hS (lv_sub hl [2, 1, 0] rfl)
set_option maxHeartbeats 4000000 in
set_option maxRecDepth 100000 in
theorem mM_work (l : Launch) (D : va_G) (h : Nat → Nat) (ca : Nat → ClassId) (A : Nat → Prop) (M : MM) (hM : okM M) : Met l yX1_work (ws_ yX1_work cX1_work 3 none) ({ frames := 5, cells := 0, slots := 0, locals := 122 }) (PM D h ca A M []) (va_Qv (fun u => ∃ T, u = sMT M T ∧ fullM (sMT M T)) (BM D h ca) A) 0 0 A := by
  refine gm_entv (by decide) rfl (Nat.le_of_ble_eq_true rfl) ?_
  intro p e s m below meth c R Q hRf hRl X hret H locs ls hP hS hl
  have hx := X.1.1
  have hb := X.1.2.1
  generalize hav : ([.ref (h 0)] : List Value).toArray = av at X hret ⊢
  have hl : lv_has ls 3 [(0, .ref (h 0))] := hl
  refine nr_iconst (v := 0) hx hb dX1_work_0 (by decide +kernel) ?_
  refine lv_istore_n (lv' := [(1, .int (nI 0)), (0, .ref (h 0))]) hx hb dX1_work_1 rfl hl (by decide) rfl (fun ls hl => ?_)
  have hP : va_P D vwCl (wM h ca (sMT M (clrZ (mT M) 0))) H := by rw [clrZ_0]; exact hP
  have lp : ∀ k, k ≤ 405 → ∀ (H : Heap) (locs : List Loc) (ls : Array Slot), va_P D vwCl (wM h ca (sMT M (clrZ (mT M) k))) H → va_S A s.heap H locs → lv_has ls 3 [(0, .ref (h 0)), (1, .int (nI k))] → W p l e R s m av below meth c H locs 0 0 Q (F0 m 2 ls []) := by
    refine gp_up (fun k hk_k ih => ?_)
    intro H locs ls hP hS hl
    refine lv_iload_n hx hb dX1_work_2 rfl (lv_at hl 1 rfl) ?_
    refine nr_sipush (v := 405) hx hb dX1_work_3 (by decide +kernel) ?_
    refine nr_icmp_ge (tgt := 22) hx hb dX1_work_6 (by decide) (by omega) (by omega) (fun c1 => ?_) (fun c1 => ?_)
    · have hk : k = 405 := by omega
      rw [hk] at hP
      have hP := gp_arrZ hP (fun e he => if_pos he)
      refine nr_iconst (v := 1) hx hb dX1_work_22 (by decide +kernel) ?_
      refine lv_istore_n (lv' := [(1, .int (nI 1)), (0, .ref (h 0))]) hx hb dX1_work_23 rfl hl (by decide) rfl (fun ls hl => ?_)
      refine nr_iconst (v := 0) hx hb dX1_work_24 (by decide +kernel) ?_
      refine lv_istore_n (lv' := [(2, .int (nI 0)), (1, .int (nI 1)), (0, .ref (h 0))]) hx hb dX1_work_25 rfl hl (by decide) rfl (fun ls hl => ?_)
      have lp2 : ∀ rd, rd ≤ 300 → ∀ (T : Nat → Bool) (mo : Nat), sndT (vM M) T → (mo = 1 ∧ rd ≤ tcnt T) ∨ (mo = 0 ∧ clsM (sMT M T)) → ∀ (H : Heap) (locs : List Loc) (ls : Array Slot), va_P D vwCl (wM h ca (sMT M T)) H → va_S A s.heap H locs → lv_has ls 3 [(0, .ref (h 0)), (1, .int (nI mo)), (2, .int (nI rd))] → W p l e R s m av below meth c H locs 0 0 Q (F0 m 26 ls []) := by
        refine gp_up (fun rd hk_rd ih2 => ?_)
        intro T mo hs hmo H locs ls hP hS hl
        have ht := tcnt_le T
        have hm1 : mo ≤ 1 := by omega
        refine lv_iload_n hx hb dX1_work_26 rfl (lv_at hl 2 rfl) ?_
        refine nr_sipush (v := 300) hx hb dX1_work_27 (by decide +kernel) ?_
        refine nr_icmp_ge (tgt := 48) hx hb dX1_work_30 (by decide) (by omega) (by omega) (fun c2 => ?_) (fun c2 => ?_)
        · have hcl : clsM (sMT M T) := by
            rcases hmo with z | z
            · omega
            · exact z.2
          exact hret (sMT M T) _ _ _ _ dX1_work_48 hP hS ⟨T, rfl, full_of (M := sMT M T) (show okM (sMT M T) from hM) hs hcl⟩
        · refine lv_iload_n hx hb dX1_work_33 rfl (lv_at hl 1 rfl) ?_
          refine nr_if_eq (tgt := 48) hx hb dX1_work_34 (by decide) (by omega) (fun c3 => ?_) (fun c3 => ?_)
          · have hcl : clsM (sMT M T) := by
              rcases hmo with z | z
              · omega
              · exact z.2
            exact hret (sMT M T) _ _ _ _ dX1_work_48 hP hS ⟨T, rfl, full_of (M := sMT M T) (show okM (sMT M T) from hM) hs hcl⟩
          · refine lv_aload_n hx hb dX1_work_37 rfl (lv_at hl 0 rfl) ?_
            refine gm_calli X (rest := []) (As := []) (n := 0) (mM_fillAll l D h ca A (sMT M T) (show okM (sMT M T) from hM)) (lw_V q270 q272 qs15 q24 q273) (by decide +kernel) ⟨by omega, by omega⟩ hP hS rfl hl.1 rfl (Nat.le_of_ble_eq_true rfl) dX1_work_38 (fun rr u H locs hu hP hS => ?_)
            obtain ⟨f, T2, hrr, hu2, hQ⟩ := hu
            subst hrr
            subst hu2
            have hP : va_P D vwCl (wM h ca (sMT M T2)) H := hP
            have hs2 : sndT (vM M) T2 := hQ.2.1 hs
            have hmo2 : (f = 1 ∧ rd + 1 ≤ tcnt T2) ∨ (f = 0 ∧ clsM (sMT M T2)) := by
              rcases hQ.2.2 with ⟨e1, e2, e3⟩ | ⟨e1, e2⟩
              · have e2 : T2 = T := e2
                subst e2
                exact Or.inr ⟨e1, e3⟩
              · have e2 : tcnt T + 1 ≤ tcnt T2 := e2
                refine Or.inl ⟨e1, ?_⟩
                rcases hmo with z | z
                · omega
                · omega
            refine lv_istore_n (lv' := [(1, .int (nI f)), (0, .ref (h 0)), (2, .int (nI rd))]) hx hb dX1_work_41 rfl hl (by decide) rfl (fun ls hl => ?_)
            refine lv_iinc (v := (nI (rd + 1))) (lv' := [(2, .int (nI (rd + 1))), (1, .int (nI f)), (0, .ref (h 0))]) hx hb dX1_work_42 hl (k := 2) rfl (nI_i1 _) (by decide) rfl (fun ls hl => ?_)
            refine lv_goto (tgt := 26) hx hb dX1_work_45 (by decide) ?_
            exact ih2 (by omega) T2 f hs2 hmo2 _ _ _ hP hS (lv_sub hl [2, 1, 0] rfl)
      exact lp2 0 (Nat.zero_le _) (fun _ => false) 1 (snd_nil _) (Or.inl ⟨rfl, Nat.zero_le _⟩) _ _ _ hP hS (lv_sub hl [2, 1, 0] rfl)
    · refine lv_aload_n hx hb dX1_work_9 rfl (lv_at hl 0 rfl) ?_
      refine gm_f5 X hP dX1_work_10 ?_
      refine lv_iload_n hx hb dX1_work_13 rfl (lv_at hl 1 rfl) ?_
      refine nr_iconst (v := 0) hx hb dX1_work_14 (by decide +kernel) ?_
      refine gm_s4 X hP hS false (by omega) rfl dX1_work_15 (fun H locs hP hS => ?_)
      have hP : va_P D vwCl (wM h ca (sMT M (clrZ (mT M) (k + 1)))) H := by rw [← clrZ_s]; exact hP
      refine lv_iinc (v := (nI (k + 1))) (lv' := [(1, .int (nI (k + 1))), (0, .ref (h 0))]) hx hb dX1_work_16 hl (k := 1) rfl (nI_i1 _) (by decide) rfl (fun ls hl => ?_)
      refine lv_goto (tgt := 2) hx hb dX1_work_19 (by decide) ?_
      exact ih (by omega) _ _ _ hP hS (lv_sub hl [1, 0] rfl)
  exact lp 0 (Nat.zero_le _) _ _ _ hP hS (lv_sub hl [1, 0] rfl)
end
section
/-! the questions of the reference -/
set_option maxHeartbeats 4000000 in
set_option maxRecDepth 100000 in
theorem mM_accepts (l : Launch) (D : va_G) (h : Nat → Nat) (ca : Nat → ClassId) (A : Nat → Prop) (M : MM) (hM : okM M) : Met l yX1_accepts (ws_ yX1_accepts cX1_accepts 1 (some .int)) ({ frames := 6, cells := 0, slots := 0, locals := 144 }) (PM D h ca A M []) (va_Qi (fun r u => (∃ T, u = sMT M T) ∧ r = nI (sfb (vM M) 0 0 (mLn M)).toNat) (BM D h ca) A) 0 0 A := by
  refine gm_enti (by decide) rfl (Nat.le_of_ble_eq_true rfl) ?_
  intro p e s m below meth c R Q hRf hRl X hret H locs ls hP hS hl
  have hx := X.1.1
  have hb := X.1.2.1
  generalize hav : ([.ref (h 0)] : List Value).toArray = av at X hret ⊢
  have hl : lv_has ls 1 [(0, .ref (h 0))] := hl
  refine lv_aload_n hx hb dX1_accepts_0 rfl (lv_at hl 0 rfl) ?_
  refine gm_callv X (rest := []) (As := []) (n := 0) (mM_work l D h ca A M hM) (lw_V q266 q268 qs14 q24 q269) (by decide +kernel) ⟨by omega, by omega⟩ hP hS rfl hl.1 rfl (Nat.le_of_ble_eq_true rfl) dX1_accepts_1 (fun u H locs hu hP hS => ?_)
  obtain ⟨T, hu1, hF⟩ := hu
  subst hu1
  have hP : va_P D vwCl (wM h ca (sMT M T)) H := hP
  have hMT : okM (sMT M T) := hM
  refine lv_aload_n hx hb dX1_accepts_4 rfl (lv_at hl 0 rfl) ?_
  refine nr_iconst (v := 0) hx hb dX1_accepts_5 (by decide +kernel) ?_
  refine nr_iconst (v := 0) hx hb dX1_accepts_6 (by decide +kernel) ?_
  refine lv_aload_n hx hb dX1_accepts_7 rfl (lv_at hl 0 rfl) ?_
  refine gm_f3 X hP dX1_accepts_8 ?_
  refine nr_top (y := (nI (mLn M))) rfl ?_
  refine gm_callS X (rest := []) (As := [.int (nI 0), .int (nI 0), .int (nI (mLn M))]) (n := 3) (mM_signFits l D h ca A (sMT M T) 0 0 (mLn M) hMT (by omega) (by omega) (Nat.le_refl _)) (lw_V q282 q284 qs18 q24 q285) (by decide +kernel) ⟨by omega, by omega⟩ hP hS rfl hl.1 rfl (Nat.le_of_ble_eq_true rfl) dX1_accepts_11 (fun rr hrr => ?_)
  have hrr : rr = nI (sfb (vM M) 0 0 (mLn M)).toNat := by rw [hrr, hF 0 0 (mLn M) (by omega) (by omega) (Nat.le_refl _)]; rfl
  subst hrr
  refine nr_if_eq_b (tgt := 21) hx hb dX1_accepts_14 (by decide) (fun cz => ?_) (fun cz => ?_)
  · refine nr_iconst (v := 0) hx hb dX1_accepts_21 (by decide +kernel) ?_
    exact hret _ (sMT M T) _ _ _ _ dX1_accepts_22 rfl hP hS ⟨⟨T, rfl⟩, by rw [cz]; rfl⟩
  · refine nr_iconst (v := 1) hx hb dX1_accepts_17 (by decide +kernel) ?_
    refine lv_goto (tgt := 22) hx hb dX1_accepts_18 (by decide) ?_
    exact hret _ (sMT M T) _ _ _ _ dX1_accepts_22 rfl hP hS ⟨⟨T, rfl⟩, by rw [cz]; rfl⟩
set_option maxHeartbeats 4000000 in
set_option maxRecDepth 100000 in
theorem mM_fits (l : Launch) (D : va_G) (h : Nat → Nat) (ca : Nat → ClassId) (A : Nat → Prop) (M : MM) (a b d : Int32) (hM : okM M) : Met l yX1_fits (ws_ yX1_fits cX1_fits 4 (some .int)) ({ frames := 6, cells := 0, slots := 0, locals := 144 }) (PM D h ca A M [.int a, .int b, .int d]) (va_Qi (fun r u => (∃ T, u = sMT M T) ∧ r = fitsA (vM M) a b d) (BM D h ca) A) 0 0 A := by
  refine gm_enti (by decide) rfl (Nat.le_of_ble_eq_true rfl) ?_
  intro p e s m below meth c R Q hRf hRl X hret H locs ls hP hS hl
  have hx := X.1.1
  have hb := X.1.2.1
  generalize hav : ([.ref (h 0), .int a, .int b, .int d] : List Value).toArray = av at X hret ⊢
  have hl : lv_has ls 4 [(0, .ref (h 0)), (1, .int a), (2, .int b), (3, .int d)] := hl
  have g2 := hM.2.1
  refine lv_aload_n hx hb dX1_fits_0 rfl (lv_at hl 0 rfl) ?_
  refine lv_iload_n hx hb dX1_fits_1 rfl (lv_at hl 1 rfl) ?_
  refine gm_callS X (rest := []) (As := [.int a]) (n := 1) (mM_badSign l D h ca A M a) (lw_V q294 q296 qs20 q24 q297) (by decide +kernel) ⟨by omega, by omega⟩ hP hS rfl hl.1 rfl (Nat.le_of_ble_eq_true rfl) dX1_fits_2 (fun r1 hr1 => ?_)
  subst hr1
  refine nr_if_eq_b (tgt := 10) hx hb dX1_fits_5 (by decide) (fun c1 => ?_) (fun c1 => ?_)
  · have c1 : isS a = true := by cases hw : isS a; rw [hw] at c1; cases c1; rfl
    refine lv_aload_n hx hb dX1_fits_10 rfl (lv_at hl 0 rfl) ?_
    refine lv_iload_n hx hb dX1_fits_11 rfl (lv_at hl 2 rfl) ?_
    refine lv_iload_n hx hb dX1_fits_12 rfl (lv_at hl 3 rfl) ?_
    refine gm_callS X (rest := []) (As := [.int b, .int d]) (n := 2) (mM_badStretch l D h ca A M b d) (lw_V q298 q300 qs21 q24 q301) (by decide +kernel) ⟨by omega, by omega⟩ hP hS rfl hl.1 rfl (Nat.le_of_ble_eq_true rfl) dX1_fits_13 (fun r2 hr2 => ?_)
    subst hr2
    refine nr_if_eq_b (tgt := 22) hx hb dX1_fits_16 (by decide) (fun c2 => ?_) (fun c2 => ?_)
    · have c2 : isT (mLn M) b d = true := by cases hw : isT (mLn M) b d; rw [hw] at c2; cases c2; rfl
      have c2' : isT (vLn (vM M)) b d = true := c2
      obtain ⟨sg, hs, es⟩ := isS_of c1
      obtain ⟨i, j, hij, hj, ei, ej⟩ := isT_of g2 c2
      subst es
      subst ei
      subst ej
      refine lv_aload_n hx hb dX1_fits_22 rfl (lv_at hl 0 rfl) ?_
      refine gm_callv X (rest := []) (As := []) (n := 0) (mM_work l D h ca A M hM) (lw_V q266 q268 qs14 q24 q269) (by decide +kernel) ⟨by omega, by omega⟩ hP hS rfl hl.1 rfl (Nat.le_of_ble_eq_true rfl) dX1_fits_23 (fun u H locs hu hP hS => ?_)
      obtain ⟨T, hu1, hF⟩ := hu
      subst hu1
      have hP : va_P D vwCl (wM h ca (sMT M T)) H := hP
      have hMT : okM (sMT M T) := hM
      refine lv_aload_n hx hb dX1_fits_26 rfl (lv_at hl 0 rfl) ?_
      refine lv_iload_n hx hb dX1_fits_27 rfl (lv_at hl 1 rfl) ?_
      refine lv_iload_n hx hb dX1_fits_28 rfl (lv_at hl 2 rfl) ?_
      refine lv_iload_n hx hb dX1_fits_29 rfl (lv_at hl 3 rfl) ?_
      refine gm_callS X (rest := []) (As := [.int (nI sg), .int (nI i), .int (nI j)]) (n := 3) (mM_signFits l D h ca A (sMT M T) sg i j hMT hs hij hj) (lw_V q282 q284 qs18 q24 q285) (by decide +kernel) ⟨by omega, by omega⟩ hP hS rfl hl.1 rfl (Nat.le_of_ble_eq_true rfl) dX1_fits_30 (fun rr hrr => ?_)
      have hrr : rr = nI (sfb (vM M) sg i j).toNat := by rw [hrr, hF sg i j hs hij hj]; rfl
      subst hrr
      refine nr_if_eq_b (tgt := 40) hx hb dX1_fits_33 (by decide) (fun cz => ?_) (fun cz => ?_)
      · refine nr_iconst (v := 0) hx hb dX1_fits_40 (by decide +kernel) ?_
        exact hret _ (sMT M T) _ _ _ _ dX1_fits_41 rfl hP hS ⟨⟨T, rfl⟩, by rw [fitsA, if_pos c1, if_pos c2', nI_clamp (by omega), nI_clamp (by omega), nI_clamp (by omega), cz]; rfl⟩
      · refine nr_iconst (v := 1) hx hb dX1_fits_36 (by decide +kernel) ?_
        refine lv_goto (tgt := 41) hx hb dX1_fits_37 (by decide) ?_
        exact hret _ (sMT M T) _ _ _ _ dX1_fits_41 rfl hP hS ⟨⟨T, rfl⟩, by rw [fitsA, if_pos c1, if_pos c2', nI_clamp (by omega), nI_clamp (by omega), nI_clamp (by omega), cz]; rfl⟩
    · have c2 : isT (mLn M) b d = false := by cases hw : isT (mLn M) b d; rfl; rw [hw] at c2; cases c2
      refine lv_bipush (v := -2) hx hb dX1_fits_19 (by decide +kernel) ?_
      exact hret _ M _ _ _ _ dX1_fits_21 rfl hP hS ⟨⟨mT M, rfl⟩, by rw [fitsA, if_pos c1]; exact (if_neg (by show ¬ isT (mLn M) b d = true; rw [c2]; exact Bool.false_ne_true)).symm⟩
  · have c1 : isS a = false := by cases hw : isS a; rfl; rw [hw] at c1; cases c1
    refine lv_iconst (v := -1) hx hb dX1_fits_8 (by decide +kernel) ?_
    exact hret _ M _ _ _ _ dX1_fits_9 rfl hP hS ⟨⟨mT M, rfl⟩, by rw [fitsA, if_neg (by rw [c1]; exact Bool.false_ne_true)]⟩
set_option maxHeartbeats 4000000 in
set_option maxRecDepth 100000 in
theorem mM_ends (l : Launch) (D : va_G) (h : Nat → Nat) (ca : Nat → ClassId) (A : Nat → Prop) (M : MM) (a b : Int32) (hM : okM M) : Met l yX1_ends (ws_ yX1_ends cX1_ends 5 (some .int)) ({ frames := 6, cells := 0, slots := 0, locals := 144 }) (PM D h ca A M [.int a, .int b]) (va_Qi (fun r u => (∃ T, u = sMT M T) ∧ r = endsA (vM M) a b) (BM D h ca) A) 0 0 A := by
  refine gm_enti (by decide) rfl (Nat.le_of_ble_eq_true rfl) ?_
  intro p e s m below meth c R Q hRf hRl X hret H locs ls hP hS hl
  have hx := X.1.1
  have hb := X.1.2.1
  generalize hav : ([.ref (h 0), .int a, .int b] : List Value).toArray = av at X hret ⊢
  have hl : lv_has ls 5 [(0, .ref (h 0)), (1, .int a), (2, .int b)] := hl
  have g2 := hM.2.1
  refine lv_aload_n hx hb dX1_ends_0 rfl (lv_at hl 0 rfl) ?_
  refine lv_iload_n hx hb dX1_ends_1 rfl (lv_at hl 1 rfl) ?_
  refine gm_callS X (rest := []) (As := [.int a]) (n := 1) (mM_badSign l D h ca A M a) (lw_V q294 q296 qs20 q24 q297) (by decide +kernel) ⟨by omega, by omega⟩ hP hS rfl hl.1 rfl (Nat.le_of_ble_eq_true rfl) dX1_ends_2 (fun r1 hr1 => ?_)
  subst hr1
  refine nr_if_eq_b (tgt := 10) hx hb dX1_ends_5 (by decide) (fun c1 => ?_) (fun c1 => ?_)
  · have c1 : isS a = true := by cases hw : isS a; rw [hw] at c1; cases c1; rfl
    refine lv_iload_n hx hb dX1_ends_10 rfl (lv_at hl 2 rfl) ?_
    refine lv_if_lt (tgt := 22) hx hb dX1_ends_11 (by decide) (fun c2 => ?_) (fun c2 => ?_)
    · refine lv_bipush (v := -2) hx hb dX1_ends_22 (by decide +kernel) ?_
      have c0 : isP (mLn M) b = false := decide_eq_false (fun z => i32_lt c2 z.1)
      exact hret _ M _ _ _ _ dX1_ends_24 rfl hP hS ⟨⟨mT M, rfl⟩, by rw [endsA, if_pos c1]; exact (if_neg (by show ¬ isP (mLn M) b = true; rw [c0]; exact Bool.false_ne_true)).symm⟩
    · refine lv_iload_n hx hb dX1_ends_14 rfl (lv_at hl 2 rfl) ?_
      refine lv_aload_n hx hb dX1_ends_15 rfl (lv_at hl 0 rfl) ?_
      refine gm_f3 X hP dX1_ends_16 ?_
      refine lv_icmp_le (tgt := 25) hx hb dX1_ends_19 (by decide) (fun c3 => ?_) (fun c3 => ?_)
      · have c0 : isP (mLn M) b = true := decide_eq_true ⟨i32_nlt c2, c3⟩
        have c0' : isP (vLn (vM M)) b = true := c0
        obtain ⟨sg, hs, es⟩ := isS_of c1
        obtain ⟨i, hi, ei⟩ := isP_of g2 c0
        subst es
        subst ei
        refine lv_aload_n hx hb dX1_ends_25 rfl (lv_at hl 0 rfl) ?_
        refine gm_callv X (rest := []) (As := []) (n := 0) (mM_work l D h ca A M hM) (lw_V q266 q268 qs14 q24 q269) (by decide +kernel) ⟨by omega, by omega⟩ hP hS rfl hl.1 rfl (Nat.le_of_ble_eq_true rfl) dX1_ends_26 (fun u H locs hu hP hS => ?_)
        obtain ⟨T, hu1, hF⟩ := hu
        subst hu1
        have hP : va_P D vwCl (wM h ca (sMT M T)) H := hP
        have hMT : okM (sMT M T) := hM
        refine nr_iconst (v := 0) hx hb dX1_ends_29 (by decide +kernel) ?_
        refine nr_top (y := (bw (fun _ => false))) (nI_0.trans bw_zero.symm) ?_
        refine lv_istore_n (lv' := [(3, .int (bw (fun _ => false))), (0, .ref (h 0)), (1, .int (nI sg)), (2, .int (nI i))]) hx hb dX1_ends_30 rfl hl (by decide) rfl (fun ls hl => ?_)
        refine lv_iload_n hx hb dX1_ends_31 rfl (lv_at hl 3 rfl) ?_
        refine lv_istore (lv' := [(4, .int (nI i)), (3, .int (bw (fun _ => false))), (0, .ref (h 0)), (1, .int (nI sg)), (2, .int (nI i))]) hx hb dX1_ends_32 hl (by decide) rfl (fun ls hl => ?_)
        have lp : ∀ j, j ≤ mLn M + 1 → ∀ (B : Nat → Bool), i ≤ j → (∀ x, B x = true ↔ i ≤ x ∧ x < j ∧ sfb (vM M) sg i x = true) → ∀ (H : Heap) (locs : List Loc) (ls : Array Slot), va_P D vwCl (wM h ca (sMT M T)) H → va_S A s.heap H locs → lv_has ls 5 [(0, .ref (h 0)), (1, .int (nI sg)), (2, .int (nI i)), (3, .int (bw B)), (4, .int (nI j))] → W p l e R s m av below meth c H locs 0 0 Q (F0 m 34 ls []) := by
          refine gp_up (fun j hk_j ih => ?_)
          intro B hij hB H locs ls hP hS hl
          refine lv_iload hx hb dX1_ends_34 (lv_at hl 4 rfl) ?_
          refine lv_aload_n hx hb dX1_ends_36 rfl (lv_at hl 0 rfl) ?_
          refine gm_f3 X hP dX1_ends_37 ?_
          refine nr_top (y := (nI (mLn M))) rfl ?_
          refine nr_icmp_gt (tgt := 74) hx hb dX1_ends_40 (by decide) (by omega) (by omega) (fun c4 => ?_) (fun c4 => ?_)
          · refine lv_iload_n hx hb dX1_ends_74 rfl (lv_at hl 3 rfl) ?_
            exact hret _ (sMT M T) _ _ _ _ dX1_ends_75 rfl hP hS ⟨⟨T, rfl⟩, by rw [endsA, if_pos c1, if_pos c0', nI_clamp (by omega), nI_clamp (by omega)]; exact bw_eq (fun x hx => sfb_eq ((hB x).trans ⟨fun z => sfb_iff.mp z.2.2, fun z => by have y := sgT_in z (show i ≤ vLn (vM M) from hi); have y2 : x ≤ mLn M := y.2; exact ⟨y.1, by omega, sfb_iff.mpr z⟩⟩))⟩
          · refine lv_iload hx hb dX1_ends_43 (lv_at hl 4 rfl) ?_
            refine nr_bipush (v := 9) hx hb dX1_ends_45 (by decide +kernel) ?_
            refine nr_icmp_ge (tgt := 74) hx hb dX1_ends_47 (by decide) (by omega) (by omega) (fun c5 => ?_) (fun c5 => ?_)
            · exact absurd c5 (by omega)
            · refine lv_aload_n hx hb dX1_ends_50 rfl (lv_at hl 0 rfl) ?_
              refine lv_iload_n hx hb dX1_ends_51 rfl (lv_at hl 1 rfl) ?_
              refine lv_iload_n hx hb dX1_ends_52 rfl (lv_at hl 2 rfl) ?_
              refine lv_iload hx hb dX1_ends_53 (lv_at hl 4 rfl) ?_
              refine gm_callS X (rest := []) (As := [.int (nI sg), .int (nI i), .int (nI j)]) (n := 3) (mM_signFits l D h ca A (sMT M T) sg i j hMT hs hij (show j ≤ mLn M by omega)) (lw_V q282 q284 qs18 q24 q285) (by decide +kernel) ⟨by omega, by omega⟩ hP hS rfl hl.1 rfl (Nat.le_of_ble_eq_true rfl) dX1_ends_55 (fun rr hrr => ?_)
              have hrr : rr = nI (sfb (vM M) sg i j).toNat := by rw [hrr, hF sg i j hs hij (show j ≤ mLn M by omega)]; rfl
              subst hrr
              refine nr_if_eq_b (tgt := 68) hx hb dX1_ends_58 (by decide) (fun c6 => ?_) (fun c6 => ?_)
              · have hB2 : ∀ x, B x = true ↔ i ≤ x ∧ x < j + 1 ∧ sfb (vM M) sg i x = true := by
                  intro x
                  rw [hB x]
                  constructor
                  · rintro ⟨z1, z2, z3⟩
                    exact ⟨z1, by omega, z3⟩
                  · rintro ⟨z1, z2, z3⟩
                    rcases Nat.lt_or_ge x j with y | y
                    · exact ⟨z1, y, z3⟩
                    · have e : x = j := by omega
                      rw [e, c6] at z3
                      cases z3
                refine lv_iinc (v := (nI (j + 1))) (lv' := [(4, .int (nI (j + 1))), (0, .ref (h 0)), (1, .int (nI sg)), (2, .int (nI i)), (3, .int (bw B))]) hx hb dX1_ends_68 hl (k := 4) rfl (nI_i1 _) (by decide) rfl (fun ls hl => ?_)
                refine lv_goto (tgt := 34) hx hb dX1_ends_71 (by decide) ?_
                exact ih (by omega) B (by omega) hB2 _ _ _ hP hS (lv_sub hl [1, 2, 3, 4, 0] rfl)
              · have hB2 : ∀ x, va_up B j true x = true ↔ i ≤ x ∧ x < j + 1 ∧ sfb (vM M) sg i x = true := by
                  intro x
                  by_cases e : x = j
                  · rw [e, va_up_self]
                    exact ⟨fun _ => ⟨hij, by omega, c6⟩, fun _ => rfl⟩
                  · rw [va_up_ne _ _ e, hB x]
                    exact ⟨fun z => ⟨z.1, by omega, z.2.2⟩, fun z => ⟨z.1, by omega, z.2.2⟩⟩
                refine lv_iload_n hx hb dX1_ends_61 rfl (lv_at hl 3 rfl) ?_
                refine nr_iconst (v := 1) hx hb dX1_ends_62 (by decide +kernel) ?_
                refine lv_iload hx hb dX1_ends_63 (lv_at hl 4 rfl) ?_
                refine nr_shl1 hx hb dX1_ends_65 (by omega) ?_
                refine nr_set hx hb dX1_ends_66 ?_
                refine lv_istore_n (lv' := [(3, .int (bw (va_up B j true))), (0, .ref (h 0)), (1, .int (nI sg)), (2, .int (nI i)), (4, .int (nI j))]) hx hb dX1_ends_67 rfl hl (by decide) rfl (fun ls hl => ?_)
                refine lv_iinc (v := (nI (j + 1))) (lv' := [(4, .int (nI (j + 1))), (3, .int (bw (va_up B j true))), (0, .ref (h 0)), (1, .int (nI sg)), (2, .int (nI i))]) hx hb dX1_ends_68 hl (k := 4) rfl (nI_i1 _) (by decide) rfl (fun ls hl => ?_)
                refine lv_goto (tgt := 34) hx hb dX1_ends_71 (by decide) ?_
                exact ih (by omega) (va_up B j true) (by omega) hB2 _ _ _ hP hS (lv_sub hl [2, 3, 4, 1, 0] rfl)
        exact lp i (by omega) (fun _ => false) (Nat.le_refl _) (fun x => ⟨fun z => absurd z Bool.false_ne_true, fun z => by omega⟩) _ _ _ hP hS (lv_sub hl [2, 3, 4, 1, 0] rfl)
      · refine lv_bipush (v := -2) hx hb dX1_ends_22 (by decide +kernel) ?_
        have c0 : isP (mLn M) b = false := decide_eq_false (fun z => c3 z.2)
        exact hret _ M _ _ _ _ dX1_ends_24 rfl hP hS ⟨⟨mT M, rfl⟩, by rw [endsA, if_pos c1]; exact (if_neg (by show ¬ isP (mLn M) b = true; rw [c0]; exact Bool.false_ne_true)).symm⟩
  · have c1 : isS a = false := by cases hw : isS a; rfl; rw [hw] at c1; cases c1
    refine lv_iconst (v := -1) hx hb dX1_ends_8 (by decide +kernel) ?_
    exact hret _ M _ _ _ _ dX1_ends_9 rfl hP hS ⟨⟨mT M, rfl⟩, by rw [endsA, if_neg (by rw [c1]; exact Bool.false_ne_true)]⟩
set_option maxHeartbeats 4000000 in
set_option maxRecDepth 100000 in
theorem mM_ruleFits (l : Launch) (D : va_G) (h : Nat → Nat) (ca : Nat → ClassId) (A : Nat → Prop) (M : MM) (a b d : Int32) (hM : okM M) : Met l yX1_ruleFits (ws_ yX1_ruleFits cX1_ruleFits 4 (some .int)) ({ frames := 6, cells := 0, slots := 0, locals := 144 }) (PM D h ca A M [.int a, .int b, .int d]) (va_Qi (fun r u => (∃ T, u = sMT M T) ∧ r = ruleFitsA (vM M) a b d) (BM D h ca) A) 0 0 A := by
  refine gm_enti (by decide) rfl (Nat.le_of_ble_eq_true rfl) ?_
  intro p e s m below meth c R Q hRf hRl X hret H locs ls hP hS hl
  have hx := X.1.1
  have hb := X.1.2.1
  generalize hav : ([.ref (h 0), .int a, .int b, .int d] : List Value).toArray = av at X hret ⊢
  have hl : lv_has ls 4 [(0, .ref (h 0)), (1, .int a), (2, .int b), (3, .int d)] := hl
  have g1 := hM.1
  have g2 := hM.2.1
  refine lv_aload_n hx hb dX1_ruleFits_0 rfl (lv_at hl 0 rfl) ?_
  refine lv_iload_n hx hb dX1_ruleFits_1 rfl (lv_at hl 1 rfl) ?_
  refine gm_callS X (rest := []) (As := [.int a]) (n := 1) (mM_badRule l D h ca A M a g1) (lw_V q234 q236 qs13 q24 q237) (by decide +kernel) ⟨by omega, by omega⟩ hP hS rfl hl.1 rfl (Nat.le_of_ble_eq_true rfl) dX1_ruleFits_2 (fun r1 hr1 => ?_)
  subst hr1
  refine nr_if_eq_b (tgt := 10) hx hb dX1_ruleFits_5 (by decide) (fun c1 => ?_) (fun c1 => ?_)
  · have c1 : isR (mCn M) a = true := by cases hw : isR (mCn M) a; rw [hw] at c1; cases c1; rfl
    refine lv_aload_n hx hb dX1_ruleFits_10 rfl (lv_at hl 0 rfl) ?_
    refine lv_iload_n hx hb dX1_ruleFits_11 rfl (lv_at hl 2 rfl) ?_
    refine lv_iload_n hx hb dX1_ruleFits_12 rfl (lv_at hl 3 rfl) ?_
    refine gm_callS X (rest := []) (As := [.int b, .int d]) (n := 2) (mM_badStretch l D h ca A M b d) (lw_V q298 q300 qs21 q24 q301) (by decide +kernel) ⟨by omega, by omega⟩ hP hS rfl hl.1 rfl (Nat.le_of_ble_eq_true rfl) dX1_ruleFits_13 (fun r2 hr2 => ?_)
    subst hr2
    have c1' : isR (vCn (vM M)) a = true := c1
    refine nr_if_eq_b (tgt := 22) hx hb dX1_ruleFits_16 (by decide) (fun c2 => ?_) (fun c2 => ?_)
    · have c2 : isT (mLn M) b d = true := by cases hw : isT (mLn M) b d; rw [hw] at c2; cases c2; rfl
      have c2' : isT (vLn (vM M)) b d = true := c2
      obtain ⟨r, hr, er⟩ := isR_of g1 c1
      obtain ⟨i, j, hij, hj, ei, ej⟩ := isT_of g2 c2
      subst er
      subst ei
      subst ej
      refine lv_aload_n hx hb dX1_ruleFits_22 rfl (lv_at hl 0 rfl) ?_
      refine gm_callv X (rest := []) (As := []) (n := 0) (mM_work l D h ca A M hM) (lw_V q266 q268 qs14 q24 q269) (by decide +kernel) ⟨by omega, by omega⟩ hP hS rfl hl.1 rfl (Nat.le_of_ble_eq_true rfl) dX1_ruleFits_23 (fun u H locs hu hP hS => ?_)
      obtain ⟨T, hu1, hF⟩ := hu
      subst hu1
      have hP : va_P D vwCl (wM h ca (sMT M T)) H := hP
      have hMT : okM (sMT M T) := hM
      refine lv_aload_n hx hb dX1_ruleFits_26 rfl (lv_at hl 0 rfl) ?_
      refine lv_aload_n hx hb dX1_ruleFits_27 rfl (lv_at hl 0 rfl) ?_
      refine gm_f2 X hP dX1_ruleFits_28 ?_
      refine lv_iload_n hx hb dX1_ruleFits_31 rfl (lv_at hl 1 rfl) ?_
      refine gm_l2 X hP (by omega) dX1_ruleFits_32 ?_
      refine nr_top (y := (nI (mRt M r))) rfl ?_
      refine lv_iload_n hx hb dX1_ruleFits_33 rfl (lv_at hl 2 rfl) ?_
      refine lv_iload_n hx hb dX1_ruleFits_34 rfl (lv_at hl 3 rfl) ?_
      refine gm_callS X (rest := []) (As := [.int (nI (mRt M r)), .int (nI i), .int (nI j)]) (n := 3) (mM_rowFits l D h ca A (sMT M T) (mRt M r) i j hMT (hM.2.2.1 r hr).2 hij hj) (lw_V q278 q280 qs17 q24 q281) (by decide +kernel) ⟨by omega, by omega⟩ hP hS rfl hl.1 rfl (Nat.le_of_ble_eq_true rfl) dX1_ruleFits_35 (fun rr hrr => ?_)
      have hrr : rr = nI (rfb (vM M) r i j).toNat := by
        have z := row_rfb (M := sMT M T) (r := r) (i := i) (j := j) hMT hF hr (show i ≤ mLn M by omega)
        have z : cl (rowP (sMT M T) (mRt M r) i j) = rfb (vM M) r i j := z
        rw [hrr, z]
      subst hrr
      refine nr_if_eq_b (tgt := 45) hx hb dX1_ruleFits_38 (by decide) (fun cz => ?_) (fun cz => ?_)
      · refine nr_iconst (v := 0) hx hb dX1_ruleFits_45 (by decide +kernel) ?_
        exact hret _ (sMT M T) _ _ _ _ dX1_ruleFits_46 rfl hP hS ⟨⟨T, rfl⟩, by rw [ruleFitsA, if_pos c1', if_pos c2', nI_clamp (by omega), nI_clamp (by omega), nI_clamp (by omega), cz]; rfl⟩
      · refine nr_iconst (v := 1) hx hb dX1_ruleFits_41 (by decide +kernel) ?_
        refine lv_goto (tgt := 46) hx hb dX1_ruleFits_42 (by decide) ?_
        exact hret _ (sMT M T) _ _ _ _ dX1_ruleFits_46 rfl hP hS ⟨⟨T, rfl⟩, by rw [ruleFitsA, if_pos c1', if_pos c2', nI_clamp (by omega), nI_clamp (by omega), nI_clamp (by omega), cz]; rfl⟩
    · have c2 : isT (mLn M) b d = false := by cases hw : isT (mLn M) b d; rfl; rw [hw] at c2; cases c2
      refine lv_bipush (v := -2) hx hb dX1_ruleFits_19 (by decide +kernel) ?_
      exact hret _ M _ _ _ _ dX1_ruleFits_21 rfl hP hS ⟨⟨mT M, rfl⟩, by rw [ruleFitsA, if_pos c1']; exact (if_neg (by show ¬ isT (mLn M) b d = true; rw [c2]; exact Bool.false_ne_true)).symm⟩
  · have c1 : isR (mCn M) a = false := by cases hw : isR (mCn M) a; rfl; rw [hw] at c1; cases c1
    refine lv_iconst (v := -1) hx hb dX1_ruleFits_8 (by decide +kernel) ?_
    exact hret _ M _ _ _ _ dX1_ruleFits_9 rfl hP hS ⟨⟨mT M, rfl⟩, by rw [ruleFitsA]; exact (if_neg (by show ¬ isR (mCn M) a = true; rw [c1]; exact Bool.false_ne_true)).symm⟩
set_option maxHeartbeats 4000000 in
set_option maxRecDepth 100000 in
theorem mM_stretches (l : Launch) (D : va_G) (h : Nat → Nat) (ca : Nat → ClassId) (A : Nat → Prop) (M : MM) (a : Int32) (hM : okM M) : Met l yX1_stretches (ws_ yX1_stretches cX1_stretches 5 (some .int)) ({ frames := 6, cells := 0, slots := 0, locals := 144 }) (PM D h ca A M [.int a]) (va_Qi (fun r u => (∃ T, u = sMT M T) ∧ r = strA (vM M) a) (BM D h ca) A) 0 0 A := by
  refine gm_enti (by decide) rfl (Nat.le_of_ble_eq_true rfl) ?_
  intro p e s m below meth c R Q hRf hRl X hret H locs ls hP hS hl
  have hx := X.1.1
  have hb := X.1.2.1
  generalize hav : ([.ref (h 0), .int a] : List Value).toArray = av at X hret ⊢
  have hl : lv_has ls 5 [(0, .ref (h 0)), (1, .int a)] := hl
  have g2 := hM.2.1
  refine lv_aload_n hx hb dX1_stretches_0 rfl (lv_at hl 0 rfl) ?_
  refine lv_iload_n hx hb dX1_stretches_1 rfl (lv_at hl 1 rfl) ?_
  refine gm_callS X (rest := []) (As := [.int a]) (n := 1) (mM_badSign l D h ca A M a) (lw_V q294 q296 qs20 q24 q297) (by decide +kernel) ⟨by omega, by omega⟩ hP hS rfl hl.1 rfl (Nat.le_of_ble_eq_true rfl) dX1_stretches_2 (fun r1 hr1 => ?_)
  subst hr1
  refine nr_if_eq_b (tgt := 10) hx hb dX1_stretches_5 (by decide) (fun c1 => ?_) (fun c1 => ?_)
  · have c1 : isS a = true := by cases hw : isS a; rw [hw] at c1; cases c1; rfl
    obtain ⟨sg, hs, es⟩ := isS_of c1
    subst es
    refine lv_aload_n hx hb dX1_stretches_10 rfl (lv_at hl 0 rfl) ?_
    refine gm_callv X (rest := []) (As := []) (n := 0) (mM_work l D h ca A M hM) (lw_V q266 q268 qs14 q24 q269) (by decide +kernel) ⟨by omega, by omega⟩ hP hS rfl hl.1 rfl (Nat.le_of_ble_eq_true rfl) dX1_stretches_11 (fun u H locs hu hP hS => ?_)
    obtain ⟨T, hu1, hF⟩ := hu
    subst hu1
    have hP : va_P D vwCl (wM h ca (sMT M T)) H := hP
    have hMT : okM (sMT M T) := hM
    refine nr_iconst (v := 0) hx hb dX1_stretches_14 (by decide +kernel) ?_
    refine lv_istore_n (lv' := [(2, .int (nI 0)), (0, .ref (h 0)), (1, .int (nI sg))]) hx hb dX1_stretches_15 rfl hl (by decide) rfl (fun ls hl => ?_)
    refine nr_iconst (v := 0) hx hb dX1_stretches_16 (by decide +kernel) ?_
    refine lv_istore_n (lv' := [(3, .int (nI 0)), (2, .int (nI 0)), (0, .ref (h 0)), (1, .int (nI sg))]) hx hb dX1_stretches_17 rfl hl (by decide) rfl (fun ls hl => ?_)
    have lp : ∀ i, i ≤ mLn M + 1 → ∀ (mm : Nat), mm = strN (vM M) sg i → ∀ (H : Heap) (locs : List Loc) (ls : Array Slot), va_P D vwCl (wM h ca (sMT M T)) H → va_S A s.heap H locs → lv_has ls 5 [(0, .ref (h 0)), (1, .int (nI sg)), (2, .int (nI mm)), (3, .int (nI i))] → W p l e R s m av below meth c H locs 0 0 Q (F0 m 18 ls []) := by
      refine gp_up (fun i hk_i ih => ?_)
      intro mm hm H locs ls hP hS hl
      refine lv_iload_n hx hb dX1_stretches_18 rfl (lv_at hl 3 rfl) ?_
      refine lv_aload_n hx hb dX1_stretches_19 rfl (lv_at hl 0 rfl) ?_
      refine gm_f3 X hP dX1_stretches_20 ?_
      refine nr_top (y := (nI (mLn M))) rfl ?_
      refine nr_icmp_gt (tgt := 64) hx hb dX1_stretches_23 (by decide) (by omega) (by omega) (fun c2 => ?_) (fun c2 => ?_)
      · have hi : i = mLn M + 1 := by omega
        subst hi
        refine lv_iload_n hx hb dX1_stretches_64 rfl (lv_at hl 2 rfl) ?_
        exact hret _ (sMT M T) _ _ _ _ dX1_stretches_65 rfl hP hS ⟨⟨T, rfl⟩, by rw [strA, if_pos c1, nI_clamp (by omega), hm]; rfl⟩
      · refine lv_iload_n hx hb dX1_stretches_26 rfl (lv_at hl 3 rfl) ?_
        refine lv_istore (lv' := [(4, .int (nI i)), (0, .ref (h 0)), (1, .int (nI sg)), (2, .int (nI mm)), (3, .int (nI i))]) hx hb dX1_stretches_27 hl (by decide) rfl (fun ls hl => ?_)
        have lp2 : ∀ j, j ≤ mLn M + 1 → ∀ (m2 : Nat), i ≤ j → m2 = mm + cnt (fun x => sfb (vM M) sg i x) j → ∀ (H : Heap) (locs : List Loc) (ls : Array Slot), va_P D vwCl (wM h ca (sMT M T)) H → va_S A s.heap H locs → lv_has ls 5 [(0, .ref (h 0)), (1, .int (nI sg)), (2, .int (nI m2)), (3, .int (nI i)), (4, .int (nI j))] → W p l e R s m av below meth c H locs 0 0 Q (F0 m 29 ls []) := by
          refine gp_up (fun j hk_j ih2 => ?_)
          intro m2 hij hm2 H locs ls hP hS hl
          refine lv_iload hx hb dX1_stretches_29 (lv_at hl 4 rfl) ?_
          refine lv_aload_n hx hb dX1_stretches_31 rfl (lv_at hl 0 rfl) ?_
          refine gm_f3 X hP dX1_stretches_32 ?_
          refine nr_top (y := (nI (mLn M))) rfl ?_
          refine nr_icmp_gt (tgt := 58) hx hb dX1_stretches_35 (by decide) (by omega) (by omega) (fun c3 => ?_) (fun c3 => ?_)
          · have hj : j = mLn M + 1 := by omega
            rw [hj] at hm2
            refine lv_iinc (v := (nI (i + 1))) (lv' := [(3, .int (nI (i + 1))), (0, .ref (h 0)), (1, .int (nI sg)), (2, .int (nI m2)), (4, .int (nI j))]) hx hb dX1_stretches_58 hl (k := 3) rfl (nI_i1 _) (by decide) rfl (fun ls hl => ?_)
            refine lv_goto (tgt := 18) hx hb dX1_stretches_61 (by decide) ?_
            exact ih (by omega) m2 (by rw [hm2, hm]; rfl) _ _ _ hP hS (lv_sub hl [1, 2, 3, 0] rfl)
          · refine lv_aload_n hx hb dX1_stretches_38 rfl (lv_at hl 0 rfl) ?_
            refine lv_iload_n hx hb dX1_stretches_39 rfl (lv_at hl 1 rfl) ?_
            refine lv_iload_n hx hb dX1_stretches_40 rfl (lv_at hl 3 rfl) ?_
            refine lv_iload hx hb dX1_stretches_41 (lv_at hl 4 rfl) ?_
            refine gm_callS X (rest := []) (As := [.int (nI sg), .int (nI i), .int (nI j)]) (n := 3) (mM_signFits l D h ca A (sMT M T) sg i j hMT hs hij (show j ≤ mLn M by omega)) (lw_V q282 q284 qs18 q24 q285) (by decide +kernel) ⟨by omega, by omega⟩ hP hS rfl hl.1 rfl (Nat.le_of_ble_eq_true rfl) dX1_stretches_43 (fun rr hrr => ?_)
            have hrr : rr = nI (sfb (vM M) sg i j).toNat := by rw [hrr, hF sg i j hs hij (show j ≤ mLn M by omega)]; rfl
            subst hrr
            refine nr_if_eq_b (tgt := 52) hx hb dX1_stretches_46 (by decide) (fun c4 => ?_) (fun c4 => ?_)
            · refine lv_iinc (v := (nI (j + 1))) (lv' := [(4, .int (nI (j + 1))), (0, .ref (h 0)), (1, .int (nI sg)), (2, .int (nI m2)), (3, .int (nI i))]) hx hb dX1_stretches_52 hl (k := 4) rfl (nI_i1 _) (by decide) rfl (fun ls hl => ?_)
              refine lv_goto (tgt := 29) hx hb dX1_stretches_55 (by decide) ?_
              exact ih2 (by omega) m2 (by omega) (by rw [hm2, ← cnt_sf rfl c4]) _ _ _ hP hS (lv_sub hl [1, 2, 3, 4, 0] rfl)
            · refine lv_iinc (v := (nI (m2 + 1))) (lv' := [(2, .int (nI (m2 + 1))), (0, .ref (h 0)), (1, .int (nI sg)), (3, .int (nI i)), (4, .int (nI j))]) hx hb dX1_stretches_49 hl (k := 2) rfl (nI_i1 _) (by decide) rfl (fun ls hl => ?_)
              refine lv_iinc (v := (nI (j + 1))) (lv' := [(4, .int (nI (j + 1))), (2, .int (nI (m2 + 1))), (0, .ref (h 0)), (1, .int (nI sg)), (3, .int (nI i))]) hx hb dX1_stretches_52 hl (k := 4) rfl (nI_i1 _) (by decide) rfl (fun ls hl => ?_)
              refine lv_goto (tgt := 29) hx hb dX1_stretches_55 (by decide) ?_
              exact ih2 (by omega) (m2 + 1) (by omega) (by rw [hm2, ← cnt_s1 rfl c4, Nat.add_assoc]) _ _ _ hP hS (lv_sub hl [2, 3, 1, 4, 0] rfl)
        exact lp2 i (by omega) mm (Nat.le_refl _) (by rw [cnt_z (fun d hd => sfb_lo (show i ≤ vLn (vM M) from c2) hd)]; rfl) _ _ _ hP hS (lv_sub hl [1, 2, 3, 4, 0] rfl)
    exact lp 0 (Nat.zero_le _) 0 rfl _ _ _ hP hS (lv_sub hl [2, 3, 1, 0] rfl)
  · have c1 : isS a = false := by cases hw : isS a; rfl; rw [hw] at c1; cases c1
    refine lv_iconst (v := -1) hx hb dX1_stretches_8 (by decide +kernel) ?_
    exact hret _ M _ _ _ _ dX1_stretches_9 rfl hP hS ⟨⟨mT M, rfl⟩, by rw [strA, if_neg (by rw [c1]; exact Bool.false_ne_true)]⟩
set_option maxHeartbeats 4000000 in
set_option maxRecDepth 100000 in
theorem mM_longest (l : Launch) (D : va_G) (h : Nat → Nat) (ca : Nat → ClassId) (A : Nat → Prop) (M : MM) (a : Int32) (hM : okM M) : Met l yX1_longest (ws_ yX1_longest cX1_longest 5 (some .int)) ({ frames := 6, cells := 0, slots := 0, locals := 144 }) (PM D h ca A M [.int a]) (va_Qi (fun r u => (∃ T, u = sMT M T) ∧ r = lgA (vM M) a) (BM D h ca) A) 0 0 A := by
  refine gm_enti (by decide) rfl (Nat.le_of_ble_eq_true rfl) ?_
  intro p e s m below meth c R Q hRf hRl X hret H locs ls hP hS hl
  have hx := X.1.1
  have hb := X.1.2.1
  generalize hav : ([.ref (h 0), .int a] : List Value).toArray = av at X hret ⊢
  have hl : lv_has ls 5 [(0, .ref (h 0)), (1, .int a)] := hl
  have g2 := hM.2.1
  refine lv_aload_n hx hb dX1_longest_0 rfl (lv_at hl 0 rfl) ?_
  refine lv_iload_n hx hb dX1_longest_1 rfl (lv_at hl 1 rfl) ?_
  refine gm_callS X (rest := []) (As := [.int a]) (n := 1) (mM_badSign l D h ca A M a) (lw_V q294 q296 qs20 q24 q297) (by decide +kernel) ⟨by omega, by omega⟩ hP hS rfl hl.1 rfl (Nat.le_of_ble_eq_true rfl) dX1_longest_2 (fun r1 hr1 => ?_)
  subst hr1
  refine nr_if_eq_b (tgt := 10) hx hb dX1_longest_5 (by decide) (fun c1 => ?_) (fun c1 => ?_)
  · have c1 : isS a = true := by cases hw : isS a; rw [hw] at c1; cases c1; rfl
    obtain ⟨sg, hs, es⟩ := isS_of c1
    subst es
    refine lv_aload_n hx hb dX1_longest_10 rfl (lv_at hl 0 rfl) ?_
    refine gm_callv X (rest := []) (As := []) (n := 0) (mM_work l D h ca A M hM) (lw_V q266 q268 qs14 q24 q269) (by decide +kernel) ⟨by omega, by omega⟩ hP hS rfl hl.1 rfl (Nat.le_of_ble_eq_true rfl) dX1_longest_11 (fun u H locs hu hP hS => ?_)
    obtain ⟨T, hu1, hF⟩ := hu
    subst hu1
    have hP : va_P D vwCl (wM h ca (sMT M T)) H := hP
    have hMT : okM (sMT M T) := hM
    refine lv_bipush (v := -2) hx hb dX1_longest_14 (by decide +kernel) ?_
    refine nr_top (y := (nI 0 - nI 2)) (by decide +kernel) ?_
    refine lv_istore_n (lv' := [(2, .int (nI 0 - nI 2)), (0, .ref (h 0)), (1, .int (nI sg))]) hx hb dX1_longest_16 rfl hl (by decide) rfl (fun ls hl => ?_)
    refine nr_iconst (v := 0) hx hb dX1_longest_17 (by decide +kernel) ?_
    refine lv_istore_n (lv' := [(3, .int (nI 0)), (2, .int (nI 0 - nI 2)), (0, .ref (h 0)), (1, .int (nI sg))]) hx hb dX1_longest_18 rfl hl (by decide) rfl (fun ls hl => ?_)
    have lp : ∀ i, i ≤ mLn M + 1 → ∀ (mm : Nat), mm = lgN (vM M) sg i → ∀ (H : Heap) (locs : List Loc) (ls : Array Slot), va_P D vwCl (wM h ca (sMT M T)) H → va_S A s.heap H locs → lv_has ls 5 [(0, .ref (h 0)), (1, .int (nI sg)), (2, .int (nI mm - nI 2)), (3, .int (nI i))] → W p l e R s m av below meth c H locs 0 0 Q (F0 m 19 ls []) := by
      refine gp_up (fun i hk_i ih => ?_)
      intro mm hm H locs ls hP hS hl
      refine lv_iload_n hx hb dX1_longest_19 rfl (lv_at hl 3 rfl) ?_
      refine lv_aload_n hx hb dX1_longest_20 rfl (lv_at hl 0 rfl) ?_
      refine gm_f3 X hP dX1_longest_21 ?_
      refine nr_top (y := (nI (mLn M))) rfl ?_
      refine nr_icmp_gt (tgt := 75) hx hb dX1_longest_24 (by decide) (by omega) (by omega) (fun c2 => ?_) (fun c2 => ?_)
      · have hi : i = mLn M + 1 := by omega
        subst hi
        refine lv_iload_n hx hb dX1_longest_75 rfl (lv_at hl 2 rfl) ?_
        exact hret _ (sMT M T) _ _ _ _ dX1_longest_76 rfl hP hS ⟨⟨T, rfl⟩, by rw [lgA, if_pos c1, nI_clamp (by omega), hm]; rfl⟩
      · refine lv_iload_n hx hb dX1_longest_27 rfl (lv_at hl 3 rfl) ?_
        refine lv_istore (lv' := [(4, .int (nI i)), (0, .ref (h 0)), (1, .int (nI sg)), (2, .int (nI mm - nI 2)), (3, .int (nI i))]) hx hb dX1_longest_28 hl (by decide) rfl (fun ls hl => ?_)
        have lp2 : ∀ j, j ≤ mLn M + 1 → ∀ (m2 : Nat), i ≤ j → m2 = lg1 (fun x => sfb (vM M) sg i x) i mm j → ∀ (H : Heap) (locs : List Loc) (ls : Array Slot), va_P D vwCl (wM h ca (sMT M T)) H → va_S A s.heap H locs → lv_has ls 5 [(0, .ref (h 0)), (1, .int (nI sg)), (2, .int (nI m2 - nI 2)), (3, .int (nI i)), (4, .int (nI j))] → W p l e R s m av below meth c H locs 0 0 Q (F0 m 30 ls []) := by
          refine gp_up (fun j hk_j ih2 => ?_)
          intro m2 hij hm2 H locs ls hP hS hl
          have hb1 : mm ≤ mLn M + 2 := by rw [hm]; exact lgN_bd (vM M) sg i
          have hb2 : m2 ≤ mLn M + 2 := by rw [hm2]; exact lg1_bd hb1 j (by omega)
          refine lv_iload hx hb dX1_longest_30 (lv_at hl 4 rfl) ?_
          refine lv_aload_n hx hb dX1_longest_32 rfl (lv_at hl 0 rfl) ?_
          refine gm_f3 X hP dX1_longest_33 ?_
          refine nr_top (y := (nI (mLn M))) rfl ?_
          refine nr_icmp_gt (tgt := 69) hx hb dX1_longest_36 (by decide) (by omega) (by omega) (fun c3 => ?_) (fun c3 => ?_)
          · have hj : j = mLn M + 1 := by omega
            rw [hj] at hm2
            refine lv_iinc (v := (nI (i + 1))) (lv' := [(3, .int (nI (i + 1))), (0, .ref (h 0)), (1, .int (nI sg)), (2, .int (nI m2 - nI 2)), (4, .int (nI j))]) hx hb dX1_longest_69 hl (k := 3) rfl (nI_i1 _) (by decide) rfl (fun ls hl => ?_)
            refine lv_goto (tgt := 19) hx hb dX1_longest_72 (by decide) ?_
            exact ih (by omega) m2 (by rw [hm2, hm]; rfl) _ _ _ hP hS (lv_sub hl [1, 2, 3, 0] rfl)
          · refine lv_iload hx hb dX1_longest_39 (lv_at hl 4 rfl) ?_
            refine lv_iload_n hx hb dX1_longest_41 rfl (lv_at hl 3 rfl) ?_
            refine nr_isub hx hb dX1_longest_42 (by omega) ?_
            refine lv_iload_n hx hb dX1_longest_43 rfl (lv_at hl 2 rfl) ?_
            refine nr_le_d2 (tgt := 63) hx hb dX1_longest_44 (by decide) (by omega) (by omega) (fun c4 => ?_) (fun c4 => ?_)
            · refine lv_iinc (v := (nI (j + 1))) (lv' := [(4, .int (nI (j + 1))), (0, .ref (h 0)), (1, .int (nI sg)), (2, .int (nI m2 - nI 2)), (3, .int (nI i))]) hx hb dX1_longest_63 hl (k := 4) rfl (nI_i1 _) (by decide) rfl (fun ls hl => ?_)
              refine lv_goto (tgt := 30) hx hb dX1_longest_66 (by decide) ?_
              exact ih2 (by omega) m2 (by omega) (by rw [lg1, if_neg (by rw [← hm2]; omega), hm2]) _ _ _ hP hS (lv_sub hl [1, 2, 3, 4, 0] rfl)
            · refine lv_aload_n hx hb dX1_longest_47 rfl (lv_at hl 0 rfl) ?_
              refine lv_iload_n hx hb dX1_longest_48 rfl (lv_at hl 1 rfl) ?_
              refine lv_iload_n hx hb dX1_longest_49 rfl (lv_at hl 3 rfl) ?_
              refine lv_iload hx hb dX1_longest_50 (lv_at hl 4 rfl) ?_
              refine gm_callS X (rest := []) (As := [.int (nI sg), .int (nI i), .int (nI j)]) (n := 3) (mM_signFits l D h ca A (sMT M T) sg i j hMT hs hij (show j ≤ mLn M by omega)) (lw_V q282 q284 qs18 q24 q285) (by decide +kernel) ⟨by omega, by omega⟩ hP hS rfl hl.1 rfl (Nat.le_of_ble_eq_true rfl) dX1_longest_52 (fun rr hrr => ?_)
              have hrr : rr = nI (sfb (vM M) sg i j).toNat := by rw [hrr, hF sg i j hs hij (show j ≤ mLn M by omega)]; rfl
              subst hrr
              refine nr_if_eq_b (tgt := 63) hx hb dX1_longest_55 (by decide) (fun c5 => ?_) (fun c5 => ?_)
              · refine lv_iinc (v := (nI (j + 1))) (lv' := [(4, .int (nI (j + 1))), (0, .ref (h 0)), (1, .int (nI sg)), (2, .int (nI m2 - nI 2)), (3, .int (nI i))]) hx hb dX1_longest_63 hl (k := 4) rfl (nI_i1 _) (by decide) rfl (fun ls hl => ?_)
                refine lv_goto (tgt := 30) hx hb dX1_longest_66 (by decide) ?_
                exact ih2 (by omega) m2 (by omega) (by rw [lg1, if_neg (by rw [c5]; intro z; exact absurd z.2.1 Bool.false_ne_true), hm2]) _ _ _ hP hS (lv_sub hl [1, 2, 3, 4, 0] rfl)
              · refine lv_iload hx hb dX1_longest_58 (lv_at hl 4 rfl) ?_
                refine lv_iload_n hx hb dX1_longest_60 rfl (lv_at hl 3 rfl) ?_
                refine nr_isub hx hb dX1_longest_61 (by omega) ?_
                refine nr_top (y := (nI (j - i + 2) - nI 2)) (by rw [pk_sub (by omega)]; rfl) ?_
                refine lv_istore_n (lv' := [(2, .int (nI (j - i + 2) - nI 2)), (0, .ref (h 0)), (1, .int (nI sg)), (3, .int (nI i)), (4, .int (nI j))]) hx hb dX1_longest_62 rfl hl (by decide) rfl (fun ls hl => ?_)
                refine lv_iinc (v := (nI (j + 1))) (lv' := [(4, .int (nI (j + 1))), (2, .int (nI (j - i + 2) - nI 2)), (0, .ref (h 0)), (1, .int (nI sg)), (3, .int (nI i))]) hx hb dX1_longest_63 hl (k := 4) rfl (nI_i1 _) (by decide) rfl (fun ls hl => ?_)
                refine lv_goto (tgt := 30) hx hb dX1_longest_66 (by decide) ?_
                exact ih2 (by omega) (j - i + 2) (by omega) (by rw [lg1, if_pos (by rw [← hm2]; exact ⟨hij, c5, c4⟩)]) _ _ _ hP hS (lv_sub hl [2, 3, 1, 4, 0] rfl)
        exact lp2 i (by omega) mm (Nat.le_refl _) (lg1_le _ i mm i (Nat.le_refl _)).symm _ _ _ hP hS (lv_sub hl [1, 2, 3, 4, 0] rfl)
    exact lp 0 (Nat.zero_le _) 0 rfl _ _ _ hP hS (lv_sub hl [2, 3, 1, 0] rfl)
  · have c1 : isS a = false := by cases hw : isS a; rfl; rw [hw] at c1; cases c1
    refine lv_iconst (v := -1) hx hb dX1_longest_8 (by decide +kernel) ?_
    exact hret _ M _ _ _ _ dX1_longest_9 rfl hP hS ⟨⟨mT M, rfl⟩, by rw [lgA, if_neg (by rw [c1]; exact Bool.false_ne_true)]⟩
set_option maxHeartbeats 4000000 in
set_option maxRecDepth 100000 in
theorem mM_empty (l : Launch) (D : va_G) (h : Nat → Nat) (ca : Nat → ClassId) (A : Nat → Prop) (M : MM) (a : Int32) (hM : okM M) : Met l yX1_empty (ws_ yX1_empty cX1_empty 2 (some .int)) ({ frames := 6, cells := 0, slots := 0, locals := 144 }) (PM D h ca A M [.int a]) (va_Qi (fun r u => (∃ T, u = sMT M T) ∧ r = if isN a = true then nI (sfb (vM M) a.toNatClampNeg 0 0).toNat else -1) (BM D h ca) A) 0 0 A := by
  refine gm_enti (by decide) rfl (Nat.le_of_ble_eq_true rfl) ?_
  intro p e s m below meth c R Q hRf hRl X hret H locs ls hP hS hl
  have hx := X.1.1
  have hb := X.1.2.1
  generalize hav : ([.ref (h 0), .int a] : List Value).toArray = av at X hret ⊢
  have hl : lv_has ls 2 [(0, .ref (h 0)), (1, .int a)] := hl
  refine lv_iload_n hx hb dX1_empty_0 rfl (lv_at hl 1 rfl) ?_
  refine lv_if_lt (tgt := 9) hx hb dX1_empty_1 (by decide) (fun c1 => ?_) (fun c1 => ?_)
  · refine lv_iconst (v := -1) hx hb dX1_empty_9 (by decide +kernel) ?_
    have c0 : isN a = false := decide_eq_false (fun z => i32_lt c1 z.1)
    exact hret _ M _ _ _ _ dX1_empty_10 rfl hP hS ⟨⟨mT M, rfl⟩, by rw [if_neg (by rw [c0]; exact Bool.false_ne_true)]⟩
  · refine lv_iload_n hx hb dX1_empty_4 rfl (lv_at hl 1 rfl) ?_
    refine nr_iconst (v := 4) hx hb dX1_empty_5 (by decide +kernel) ?_
    refine lv_icmp_le (tgt := 11) hx hb dX1_empty_6 (by decide) (fun c2 => ?_) (fun c2 => ?_)
    · have c0 : isN a = true := decide_eq_true ⟨i32_nlt c1, n45.mpr c2⟩
      obtain ⟨n, hn, en⟩ := isN_of c0
      subst en
      refine lv_aload_n hx hb dX1_empty_11 rfl (lv_at hl 0 rfl) ?_
      refine gm_callv X (rest := []) (As := []) (n := 0) (mM_work l D h ca A M hM) (lw_V q266 q268 qs14 q24 q269) (by decide +kernel) ⟨by omega, by omega⟩ hP hS rfl hl.1 rfl (Nat.le_of_ble_eq_true rfl) dX1_empty_12 (fun u H locs hu hP hS => ?_)
      obtain ⟨T, hu1, hF⟩ := hu
      subst hu1
      have hP : va_P D vwCl (wM h ca (sMT M T)) H := hP
      have hMT : okM (sMT M T) := hM
      refine lv_aload_n hx hb dX1_empty_15 rfl (lv_at hl 0 rfl) ?_
      refine lv_iload_n hx hb dX1_empty_16 rfl (lv_at hl 1 rfl) ?_
      refine nr_iconst (v := 0) hx hb dX1_empty_17 (by decide +kernel) ?_
      refine nr_iconst (v := 0) hx hb dX1_empty_18 (by decide +kernel) ?_
      refine gm_callS X (rest := []) (As := [.int (nI n), .int (nI 0), .int (nI 0)]) (n := 3) (mM_signFits l D h ca A (sMT M T) n 0 0 hMT (by omega) (Nat.le_refl _) (Nat.zero_le _)) (lw_V q282 q284 qs18 q24 q285) (by decide +kernel) ⟨by omega, by omega⟩ hP hS rfl hl.1 rfl (Nat.le_of_ble_eq_true rfl) dX1_empty_19 (fun rr hrr => ?_)
      have hrr : rr = nI (sfb (vM M) n 0 0).toNat := by rw [hrr, hF n 0 0 (by omega) (Nat.le_refl _) (Nat.zero_le _)]; rfl
      subst hrr
      refine nr_if_eq_b (tgt := 29) hx hb dX1_empty_22 (by decide) (fun cz => ?_) (fun cz => ?_)
      · refine nr_iconst (v := 0) hx hb dX1_empty_29 (by decide +kernel) ?_
        exact hret _ (sMT M T) _ _ _ _ dX1_empty_30 rfl hP hS ⟨⟨T, rfl⟩, by rw [if_pos c0, nI_clamp (by omega), cz]; rfl⟩
      · refine nr_iconst (v := 1) hx hb dX1_empty_25 (by decide +kernel) ?_
        refine lv_goto (tgt := 30) hx hb dX1_empty_26 (by decide) ?_
        exact hret _ (sMT M T) _ _ _ _ dX1_empty_30 rfl hP hS ⟨⟨T, rfl⟩, by rw [if_pos c0, nI_clamp (by omega), cz]; rfl⟩
    · refine lv_iconst (v := -1) hx hb dX1_empty_9 (by decide +kernel) ?_
      have c0 : isN a = false := decide_eq_false (fun z => c2 (n45.mp z.2))
      exact hret _ M _ _ _ _ dX1_empty_10 rfl hP hS ⟨⟨mT M, rfl⟩, by rw [if_neg (by rw [c0]; exact Bool.false_ne_true)]⟩
set_option maxHeartbeats 4000000 in
set_option maxRecDepth 100000 in
theorem mM_ways (l : Launch) (D : va_G) (h : Nat → Nat) (ca : Nat → ClassId) (A : Nat → Prop) (M : MM) (a b d : Int32) (hM : okM M) : Met l yX1_ways (ws_ yX1_ways cX1_ways 6 (some .int)) ({ frames := 6, cells := 0, slots := 0, locals := 144 }) (PM D h ca A M [.int a, .int b, .int d]) (va_Qi (fun r u => (∃ T, u = sMT M T) ∧ r = wayA (vM M) a b d) (BM D h ca) A) 0 0 A := by
  refine gm_enti (by decide) rfl (Nat.le_of_ble_eq_true rfl) ?_
  intro p e s m below meth c R Q hRf hRl X hret H locs ls hP hS hl
  have hx := X.1.1
  have hb := X.1.2.1
  generalize hav : ([.ref (h 0), .int a, .int b, .int d] : List Value).toArray = av at X hret ⊢
  have hl : lv_has ls 6 [(0, .ref (h 0)), (1, .int a), (2, .int b), (3, .int d)] := hl
  have g1 := hM.1
  have g2 := hM.2.1
  refine lv_iload_n hx hb dX1_ways_0 rfl (lv_at hl 1 rfl) ?_
  refine lv_if_lt (tgt := 9) hx hb dX1_ways_1 (by decide) (fun c1 => ?_) (fun c1 => ?_)
  · refine lv_iconst (v := -1) hx hb dX1_ways_9 (by decide +kernel) ?_
    have c0 : isN a = false := decide_eq_false (fun z => i32_lt c1 z.1)
    exact hret _ M _ _ _ _ dX1_ways_10 rfl hP hS ⟨⟨mT M, rfl⟩, by rw [wayA, if_neg (by rw [c0]; exact Bool.false_ne_true)]⟩
  · refine lv_iload_n hx hb dX1_ways_4 rfl (lv_at hl 1 rfl) ?_
    refine nr_iconst (v := 4) hx hb dX1_ways_5 (by decide +kernel) ?_
    refine lv_icmp_le (tgt := 11) hx hb dX1_ways_6 (by decide) (fun c2 => ?_) (fun c2 => ?_)
    · have c0 : isN a = true := decide_eq_true ⟨i32_nlt c1, n45.mpr c2⟩
      refine lv_aload_n hx hb dX1_ways_11 rfl (lv_at hl 0 rfl) ?_
      refine lv_iload_n hx hb dX1_ways_12 rfl (lv_at hl 2 rfl) ?_
      refine lv_iload_n hx hb dX1_ways_13 rfl (lv_at hl 3 rfl) ?_
      refine gm_callS X (rest := []) (As := [.int b, .int d]) (n := 2) (mM_badStretch l D h ca A M b d) (lw_V q298 q300 qs21 q24 q301) (by decide +kernel) ⟨by omega, by omega⟩ hP hS rfl hl.1 rfl (Nat.le_of_ble_eq_true rfl) dX1_ways_14 (fun r2 hr2 => ?_)
      subst hr2
      refine nr_if_eq_b (tgt := 23) hx hb dX1_ways_17 (by decide) (fun c3 => ?_) (fun c3 => ?_)
      · have c3 : isT (mLn M) b d = true := by cases hw : isT (mLn M) b d; rw [hw] at c3; cases c3; rfl
        have c3' : isT (vLn (vM M)) b d = true := c3
        obtain ⟨n, hn, en⟩ := isN_of c0
        obtain ⟨i, j, hij, hj, ei, ej⟩ := isT_of g2 c3
        subst en
        subst ei
        subst ej
        refine lv_aload_n hx hb dX1_ways_23 rfl (lv_at hl 0 rfl) ?_
        refine gm_callv X (rest := []) (As := []) (n := 0) (mM_work l D h ca A M hM) (lw_V q266 q268 qs14 q24 q269) (by decide +kernel) ⟨by omega, by omega⟩ hP hS rfl hl.1 rfl (Nat.le_of_ble_eq_true rfl) dX1_ways_24 (fun u H locs hu hP hS => ?_)
        obtain ⟨T, hu1, hF⟩ := hu
        subst hu1
        have hP : va_P D vwCl (wM h ca (sMT M T)) H := hP
        have hMT : okM (sMT M T) := hM
        refine nr_iconst (v := 0) hx hb dX1_ways_27 (by decide +kernel) ?_
        refine lv_istore (lv' := [(4, .int (nI 0)), (0, .ref (h 0)), (1, .int (nI n)), (2, .int (nI i)), (3, .int (nI j))]) hx hb dX1_ways_28 hl (by decide) rfl (fun ls hl => ?_)
        refine nr_iconst (v := 0) hx hb dX1_ways_30 (by decide +kernel) ?_
        refine lv_istore (lv' := [(5, .int (nI 0)), (4, .int (nI 0)), (0, .ref (h 0)), (1, .int (nI n)), (2, .int (nI i)), (3, .int (nI j))]) hx hb dX1_ways_31 hl (by decide) rfl (fun ls hl => ?_)
        have lp : ∀ r, r ≤ mCn M → ∀ (mm : Nat), mm = cnt (fun r => decide (vLf (vM M) r = n) && rfb (vM M) r i j) r → ∀ (H : Heap) (locs : List Loc) (ls : Array Slot), va_P D vwCl (wM h ca (sMT M T)) H → va_S A s.heap H locs → lv_has ls 6 [(0, .ref (h 0)), (1, .int (nI n)), (2, .int (nI i)), (3, .int (nI j)), (4, .int (nI mm)), (5, .int (nI r))] → W p l e R s m av below meth c H locs 0 0 Q (F0 m 33 ls []) := by
          refine gp_up (fun r hk_r ih => ?_)
          intro mm hm H locs ls hP hS hl
          refine lv_iload hx hb dX1_ways_33 (lv_at hl 5 rfl) ?_
          refine lv_aload_n hx hb dX1_ways_35 rfl (lv_at hl 0 rfl) ?_
          refine gm_f0 X hP dX1_ways_36 ?_
          refine nr_top (y := (nI (mCn M))) rfl ?_
          refine nr_icmp_ge (tgt := 85) hx hb dX1_ways_39 (by decide) (by omega) (by omega) (fun c4 => ?_) (fun c4 => ?_)
          · have hr : r = mCn M := by omega
            subst hr
            refine lv_iload hx hb dX1_ways_85 (lv_at hl 4 rfl) ?_
            exact hret _ (sMT M T) _ _ _ _ dX1_ways_87 rfl hP hS ⟨⟨T, rfl⟩, by rw [wayA, if_pos c0, if_pos c3', nI_clamp (by omega), nI_clamp (by omega), nI_clamp (by omega), hm]; rfl⟩
          · have gl := (hM.2.2.1 r c4).1
            refine lv_iload hx hb dX1_ways_42 (lv_at hl 5 rfl) ?_
            refine nr_bipush (v := 12) hx hb dX1_ways_44 (by decide +kernel) ?_
            refine nr_icmp_ge (tgt := 85) hx hb dX1_ways_46 (by decide) (by omega) (by omega) (fun c5 => ?_) (fun c5 => ?_)
            · exact absurd c5 (by omega)
            · refine lv_aload_n hx hb dX1_ways_49 rfl (lv_at hl 0 rfl) ?_
              refine gm_f1 X hP dX1_ways_50 ?_
              refine lv_iload hx hb dX1_ways_53 (lv_at hl 5 rfl) ?_
              refine gm_l1 X hP (by omega) dX1_ways_55 ?_
              refine nr_top (y := (nI (mLf M r))) rfl ?_
              refine lv_iload_n hx hb dX1_ways_56 rfl (lv_at hl 1 rfl) ?_
              refine nr_icmp_ne (tgt := 79) hx hb dX1_ways_57 (by decide) (by omega) (by omega) (fun c6 => ?_) (fun c6 => ?_)
              · refine lv_iinc (v := (nI (r + 1))) (lv' := [(5, .int (nI (r + 1))), (0, .ref (h 0)), (1, .int (nI n)), (2, .int (nI i)), (3, .int (nI j)), (4, .int (nI mm))]) hx hb dX1_ways_79 hl (k := 5) rfl (nI_i1 _) (by decide) rfl (fun ls hl => ?_)
                refine lv_goto (tgt := 33) hx hb dX1_ways_82 (by decide) ?_
                exact ih c4 mm (cnt_sf hm (by show (decide (mLf M r = n) && _) = false; rw [decide_eq_false c6]; rfl)) _ _ _ hP hS (lv_sub hl [1, 2, 3, 4, 5, 0] rfl)
              · refine lv_aload_n hx hb dX1_ways_60 rfl (lv_at hl 0 rfl) ?_
                refine lv_aload_n hx hb dX1_ways_61 rfl (lv_at hl 0 rfl) ?_
                refine gm_f2 X hP dX1_ways_62 ?_
                refine lv_iload hx hb dX1_ways_65 (lv_at hl 5 rfl) ?_
                refine gm_l2 X hP (by omega) dX1_ways_67 ?_
                refine nr_top (y := (nI (mRt M r))) rfl ?_
                refine lv_iload_n hx hb dX1_ways_68 rfl (lv_at hl 2 rfl) ?_
                refine lv_iload_n hx hb dX1_ways_69 rfl (lv_at hl 3 rfl) ?_
                refine gm_callS X (rest := []) (As := [.int (nI (mRt M r)), .int (nI i), .int (nI j)]) (n := 3) (mM_rowFits l D h ca A (sMT M T) (mRt M r) i j hMT (hM.2.2.1 r c4).2 hij hj) (lw_V q278 q280 qs17 q24 q281) (by decide +kernel) ⟨by omega, by omega⟩ hP hS rfl hl.1 rfl (Nat.le_of_ble_eq_true rfl) dX1_ways_70 (fun rr hrr => ?_)
                have hrr : rr = nI (rfb (vM M) r i j).toNat := by
                  have z := row_rfb (M := sMT M T) (r := r) (i := i) (j := j) hMT hF c4 (show i ≤ mLn M by omega)
                  have z : cl (rowP (sMT M T) (mRt M r) i j) = rfb (vM M) r i j := z
                  rw [hrr, z]
                subst hrr
                refine nr_if_eq_b (tgt := 79) hx hb dX1_ways_73 (by decide) (fun c7 => ?_) (fun c7 => ?_)
                · refine lv_iinc (v := (nI (r + 1))) (lv' := [(5, .int (nI (r + 1))), (0, .ref (h 0)), (1, .int (nI n)), (2, .int (nI i)), (3, .int (nI j)), (4, .int (nI mm))]) hx hb dX1_ways_79 hl (k := 5) rfl (nI_i1 _) (by decide) rfl (fun ls hl => ?_)
                  refine lv_goto (tgt := 33) hx hb dX1_ways_82 (by decide) ?_
                  exact ih c4 mm (cnt_sf hm (by show (_ && rfb (vM M) r i j) = false; rw [c7]; exact Bool.and_false _)) _ _ _ hP hS (lv_sub hl [1, 2, 3, 4, 5, 0] rfl)
                · refine lv_iinc (v := (nI (mm + 1))) (lv' := [(4, .int (nI (mm + 1))), (0, .ref (h 0)), (1, .int (nI n)), (2, .int (nI i)), (3, .int (nI j)), (5, .int (nI r))]) hx hb dX1_ways_76 hl (k := 4) rfl (nI_i1 _) (by decide) rfl (fun ls hl => ?_)
                  refine lv_iinc (v := (nI (r + 1))) (lv' := [(5, .int (nI (r + 1))), (4, .int (nI (mm + 1))), (0, .ref (h 0)), (1, .int (nI n)), (2, .int (nI i)), (3, .int (nI j))]) hx hb dX1_ways_79 hl (k := 5) rfl (nI_i1 _) (by decide) rfl (fun ls hl => ?_)
                  refine lv_goto (tgt := 33) hx hb dX1_ways_82 (by decide) ?_
                  exact ih c4 (mm + 1) (cnt_s1 hm (by show (decide (mLf M r = n) && rfb (vM M) r i j) = true; rw [c7, decide_eq_true c6]; rfl)) _ _ _ hP hS (lv_sub hl [2, 3, 4, 5, 1, 0] rfl)
        exact lp 0 (Nat.zero_le _) 0 rfl _ _ _ hP hS (lv_sub hl [2, 3, 4, 5, 1, 0] rfl)
      · have c3 : isT (mLn M) b d = false := by cases hw : isT (mLn M) b d; rfl; rw [hw] at c3; cases c3
        refine lv_bipush (v := -2) hx hb dX1_ways_20 (by decide +kernel) ?_
        exact hret _ M _ _ _ _ dX1_ways_22 rfl hP hS ⟨⟨mT M, rfl⟩, by rw [wayA, if_pos c0]; exact (if_neg (by show ¬ isT (mLn M) b d = true; rw [c3]; exact Bool.false_ne_true)).symm⟩
    · refine lv_iconst (v := -1) hx hb dX1_ways_9 (by decide +kernel) ?_
      have c0 : isN a = false := decide_eq_false (fun z => c2 (n45.mp z.2))
      exact hret _ M _ _ _ _ dX1_ways_10 rfl hP hS ⟨⟨mT M, rfl⟩, by rw [wayA, if_neg (by rw [c0]; exact Bool.false_ne_true)]⟩
set_option maxHeartbeats 4000000 in
set_option maxRecDepth 100000 in
theorem mM_nextLetter (l : Launch) (D : va_G) (h : Nat → Nat) (ca : Nat → ClassId) (A : Nat → Prop) (M : MM) (hM : okM M) : Met l yX1_nextLetter (ws_ yX1_nextLetter cX1_nextLetter 3 (some .int)) ({ frames := 6, cells := 0, slots := 0, locals := 144 }) (PM D h ca A M []) (va_Qi (fun r u => (∃ T, u = sMT (nextM M) T) ∧ r = nxA (vM M)) (BM D h ca) A) 0 0 A := by
  refine gm_enti (by decide) rfl (Nat.le_of_ble_eq_true rfl) ?_
  intro p e s m below meth c R Q hRf hRl X hret H locs ls hP hS hl
  have hx := X.1.1
  have hb := X.1.2.1
  generalize hav : ([.ref (h 0)] : List Value).toArray = av at X hret ⊢
  have hl : lv_has ls 3 [(0, .ref (h 0))] := hl
  have g2 := hM.2.1
  refine lv_aload_n hx hb dX1_nextLetter_0 rfl (lv_at hl 0 rfl) ?_
  refine gm_f3 X hP dX1_nextLetter_1 ?_
  refine nr_bipush (v := 7) hx hb dX1_nextLetter_4 (by decide +kernel) ?_
  refine nr_icmp_le (tgt := 11) hx hb dX1_nextLetter_6 (by decide) (by omega) (by omega) (fun c1 => ?_) (fun c1 => ?_)
  · refine nr_iconst (v := 0) hx hb dX1_nextLetter_11 (by decide +kernel) ?_
    refine lv_istore_n (lv' := [(1, .int (nI 0)), (0, .ref (h 0))]) hx hb dX1_nextLetter_12 rfl hl (by decide) rfl (fun ls hl => ?_)
    refine nr_bipush (v := 7) hx hb dX1_nextLetter_13 (by decide +kernel) ?_
    refine lv_istore_n (lv' := [(2, .int (nI 7)), (1, .int (nI 0)), (0, .ref (h 0))]) hx hb dX1_nextLetter_15 rfl hl (by decide) rfl (fun ls hl => ?_)
    have hP : va_P D vwCl (wM h ca (sMTx (sMT M (mT M)) (mTx M))) H := hP
    have lp : ∀ t : Nat, ∀ (T0 : Nat → Bool) (f : Nat → Nat) (fd : Nat), t ≤ 3 → (∀ L, va_up f (mLn M) L = va_up (mTx M) (mLn M) L) → (t < 3 → f = va_up (mTx M) (mLn M) (t + 5)) → fd = nxN (vM M) (3 - t) → ∀ (H : Heap) (locs : List Loc) (ls : Array Slot), va_P D vwCl (wM h ca (sMTx (sMT M T0) f)) H → va_S A s.heap H locs → lv_has ls 3 [(0, .ref (h 0)), (1, .int (nI fd)), (2, .int (nI (t + 4)))] → W p l e R s m av below meth c H locs 0 0 Q (F0 m 16 ls []) := by
      refine gp_dn (fun t ih => ?_)
      intro T0 f fd ht3 hf hf2 hn H locs ls hP hS hl
      refine lv_iload_n hx hb dX1_nextLetter_16 rfl (lv_at hl 2 rfl) ?_
      refine nr_iconst (v := 4) hx hb dX1_nextLetter_17 (by decide +kernel) ?_
      refine nr_icmp_le (tgt := 76) hx hb dX1_nextLetter_18 (by decide) (by omega) (by omega) (fun c2 => ?_) (fun c2 => ?_)
      · have ht : t = 0 := by omega
        subst ht
        have hf3 := hf2 (by omega)
        subst hf3
        have hl : lv_has ls 3 [(0, .ref (h 0)), (1, .int (nI fd))] := lv_sub hl [0, 1] rfl
        refine lv_iload_n hx hb dX1_nextLetter_76 rfl (lv_at hl 1 rfl) ?_
        exact hret _ (sMT (sMTx M (va_up (mTx M) (mLn M) 5)) T0) _ _ _ _ dX1_nextLetter_77 rfl hP hS ⟨⟨T0, by rw [nextM, if_neg (by omega)]⟩, by rw [hn, nxA]; exact (if_neg (show ¬ mLn M = 8 by omega)).symm⟩
      · obtain ⟨i, ei⟩ : ∃ i, t = i + 1 := ⟨t - 1, by omega⟩
        subst ei
        have hl : lv_has ls 3 [(0, .ref (h 0)), (1, .int (nI fd)), (2, .int (nI (i + 4 + 1)))] := hl
        refine lv_aload_n hx hb dX1_nextLetter_21 rfl (lv_at hl 0 rfl) ?_
        refine gm_f4 X hP dX1_nextLetter_22 ?_
        refine lv_aload_n hx hb dX1_nextLetter_25 rfl (lv_at hl 0 rfl) ?_
        refine gm_f3 X hP dX1_nextLetter_26 ?_
        refine nr_top (y := (nI (mLn M))) rfl ?_
        refine lv_iload_n hx hb dX1_nextLetter_29 rfl (lv_at hl 2 rfl) ?_
        refine gm_s3 X hP hS (by omega) dX1_nextLetter_30 (fun H locs hP hS => ?_)
        have ef := hf (i + 4 + 1)
        have hP : va_P D vwCl (wM h ca (sMTx (sMT M T0) (va_up (mTx M) (mLn M) (i + 4 + 1)))) H := by rw [← ef]; exact hP
        refine lv_aload_n hx hb dX1_nextLetter_31 rfl (lv_at hl 0 rfl) ?_
        refine lv_dup hx hb dX1_nextLetter_32 rfl ?_
        refine gm_f3 X hP dX1_nextLetter_33 ?_
        refine nr_top (y := (nI (mLn M))) rfl ?_
        refine nr_iconst (v := 1) hx hb dX1_nextLetter_36 (by decide +kernel) ?_
        refine nr_iadd hx hb dX1_nextLetter_37 ?_
        refine gm_p3 X hP hS dX1_nextLetter_38 (fun H locs hP hS => ?_)
        refine lv_aload_n hx hb dX1_nextLetter_41 rfl (lv_at hl 0 rfl) ?_
        have hM2 := okM_plus (T := T0) hM (show mLn M ≠ 8 by omega) (c0 := i + 4 + 1) (by omega) (by omega)
        refine gm_callv X (rest := []) (As := []) (n := 0) (mM_work l D h ca A (sMLn (sMTx (sMT M T0) (va_up (mTx M) (mLn M) (i + 4 + 1))) (mLn M + 1)) hM2) (lw_V q266 q268 qs14 q24 q269) (by decide +kernel) ⟨by omega, by omega⟩ hP hS rfl hl.1 rfl (Nat.le_of_ble_eq_true rfl) dX1_nextLetter_42 (fun u H locs hu hP hS => ?_)
        obtain ⟨T, hu1, hF⟩ := hu
        subst hu1
        have hP : va_P D vwCl (wM h ca (sMT (sMLn (sMTx (sMT M T0) (va_up (mTx M) (mLn M) (i + 4 + 1))) (mLn M + 1)) T)) H := hP
        have hMT : okM (sMT (sMLn (sMTx (sMT M T0) (va_up (mTx M) (mLn M) (i + 4 + 1))) (mLn M + 1)) T) := hM2
        refine lv_aload_n hx hb dX1_nextLetter_45 rfl (lv_at hl 0 rfl) ?_
        refine nr_iconst (v := 0) hx hb dX1_nextLetter_46 (by decide +kernel) ?_
        refine nr_iconst (v := 0) hx hb dX1_nextLetter_47 (by decide +kernel) ?_
        refine lv_aload_n hx hb dX1_nextLetter_48 rfl (lv_at hl 0 rfl) ?_
        refine gm_f3 X hP dX1_nextLetter_49 ?_
        refine nr_top (y := (nI (mLn M + 1))) rfl ?_
        refine gm_callS X (rest := []) (As := [.int (nI 0), .int (nI 0), .int (nI (mLn M + 1))]) (n := 3) (mM_signFits l D h ca A (sMT (sMLn (sMTx (sMT M T0) (va_up (mTx M) (mLn M) (i + 4 + 1))) (mLn M + 1)) T) 0 0 (mLn M + 1) hMT (by omega) (Nat.zero_le _) (Nat.le_refl _)) (lw_V q282 q284 qs18 q24 q285) (by decide +kernel) ⟨by omega, by omega⟩ hP hS rfl hl.1 rfl (Nat.le_of_ble_eq_true rfl) dX1_nextLetter_52 (fun rr hrr => ?_)
        have hrr : rr = nI (sfb (vM (sMLn (sMTx (sMT M T0) (va_up (mTx M) (mLn M) (i + 4 + 1))) (mLn M + 1))) 0 0 (mLn M + 1)).toNat := by rw [hrr, hF 0 0 (mLn M + 1) (by omega) (Nat.zero_le _) (Nat.le_refl _)]; rfl
        subst hrr
        have es := nxN_s (V := vM M) (i := i) (by omega)
        refine nr_if_eq_b (tgt := 60) hx hb dX1_nextLetter_55 (by decide) (fun c3 => ?_) (fun c3 => ?_)
        · refine lv_aload_n hx hb dX1_nextLetter_60 rfl (lv_at hl 0 rfl) ?_
          refine lv_dup hx hb dX1_nextLetter_61 rfl ?_
          refine gm_f3 X hP dX1_nextLetter_62 ?_
          refine nr_top (y := (nI (mLn M + 1))) rfl ?_
          refine nr_iconst (v := 1) hx hb dX1_nextLetter_65 (by decide +kernel) ?_
          refine nr_isub hx hb dX1_nextLetter_66 (by omega) ?_
          refine gm_p3 X hP hS dX1_nextLetter_67 (fun H locs hP hS => ?_)
          have hP : va_P D vwCl (wM h ca (sMTx (sMT M T) (va_up (mTx M) (mLn M) (i + 4 + 1)))) H := hP
          refine lv_iinc (v := (nI (i + 4))) (lv' := [(2, .int (nI (i + 4))), (0, .ref (h 0)), (1, .int (nI fd))]) hx hb dX1_nextLetter_70 hl (k := 2) rfl (nI_im _) (by decide) rfl (fun ls hl => ?_)
          refine lv_goto (tgt := 16) hx hb dX1_nextLetter_73 (by decide) ?_
          exact ih i rfl T (va_up (mTx M) (mLn M) (i + 4 + 1)) fd (by omega) (fun L => by rw [show va_up (va_up (mTx M) (mLn M) (i + 4 + 1)) (mLn M) L = va_up (mTx M) (mLn M) L from bx_uu _ _ _ _]) (fun _ => rfl) (by rw [es]; exact hn.trans (if_neg (by show ¬ sfb (vM (sMLn (sMTx (sMT M T0) (va_up (mTx M) (mLn M) (i + 4 + 1))) (mLn M + 1))) 0 0 (mLn M + 1) = true; rw [c3]; exact Bool.false_ne_true)).symm) _ _ _ hP hS (lv_sub hl [1, 2, 0] rfl)
        · refine lv_iload_n hx hb dX1_nextLetter_58 rfl (lv_at hl 2 rfl) ?_
          refine lv_istore_n (lv' := [(1, .int (nI (i + 4 + 1))), (0, .ref (h 0)), (2, .int (nI (i + 4 + 1)))]) hx hb dX1_nextLetter_59 rfl hl (by decide) rfl (fun ls hl => ?_)
          refine lv_aload_n hx hb dX1_nextLetter_60 rfl (lv_at hl 1 rfl) ?_
          refine lv_dup hx hb dX1_nextLetter_61 rfl ?_
          refine gm_f3 X hP dX1_nextLetter_62 ?_
          refine nr_top (y := (nI (mLn M + 1))) rfl ?_
          refine nr_iconst (v := 1) hx hb dX1_nextLetter_65 (by decide +kernel) ?_
          refine nr_isub hx hb dX1_nextLetter_66 (by omega) ?_
          refine gm_p3 X hP hS dX1_nextLetter_67 (fun H locs hP hS => ?_)
          have hP : va_P D vwCl (wM h ca (sMTx (sMT M T) (va_up (mTx M) (mLn M) (i + 4 + 1)))) H := hP
          refine lv_iinc (v := (nI (i + 4))) (lv' := [(2, .int (nI (i + 4))), (1, .int (nI (i + 4 + 1))), (0, .ref (h 0))]) hx hb dX1_nextLetter_70 hl (k := 2) rfl (nI_im _) (by decide) rfl (fun ls hl => ?_)
          refine lv_goto (tgt := 16) hx hb dX1_nextLetter_73 (by decide) ?_
          exact ih i rfl T (va_up (mTx M) (mLn M) (i + 4 + 1)) (i + 4 + 1) (by omega) (fun L => by rw [show va_up (va_up (mTx M) (mLn M) (i + 4 + 1)) (mLn M) L = va_up (mTx M) (mLn M) L from bx_uu _ _ _ _]) (fun _ => rfl) (by rw [es]; exact (if_pos (show sfb (vM (sMLn (sMTx (sMT M T0) (va_up (mTx M) (mLn M) (i + 4 + 1))) (mLn M + 1))) 0 0 (mLn M + 1) = true from c3)).symm) _ _ _ hP hS (lv_sub hl [2, 1, 0] rfl)
    exact lp 3 (mT M) (mTx M) 0 (Nat.le_refl _) (fun _ => rfl) (fun z => absurd z (by omega)) rfl _ _ _ hP hS (lv_sub hl [2, 1, 0] rfl)
  · refine lv_iconst (v := -1) hx hb dX1_nextLetter_9 (by decide +kernel) ?_
    exact hret _ M _ _ _ _ dX1_nextLetter_10 rfl hP hS ⟨⟨mT M, by rw [nextM, if_pos (by omega)]; rfl⟩, by rw [nxA]; exact (if_pos (show mLn M = 8 by omega)).symm⟩
end
section
/-! the constructors: worlds with nothing in them -/
def G0 : GG := (fun _ => 0, fun _ => 0, fun _ => 0, fun _ => 0, 0, 0)
def M0 : MM := (fun _ => 0, fun _ => 0, fun _ => 0, fun _ => false, 0, 0)
theorem nF_0 : nF (fun _ => 0) = fun _ => 0 := funext fun _ => nI_0
theorem wd_0 : wd (fun _ => false) = fun _ => 0 := funext fun _ => bw_zero
theorem zF_0 : zF (fun _ => false) = fun _ => 0 := funext fun _ => nI_0
theorem wX_nil (h : Nat → Nat) (ca : Nat → ClassId) : wX h ca G0 nilF = [(h 0, .inr (0, [.ref (h 1), .ref (h 2), .ref (h 3), .ref (h 4), .ref (h 5), .ref (h 6), .ref (h 7), .ref (h 8), .ref (h 9), .int 0, .int 0, .int 0])), ((h 1), .inl (ca 1, 12, .inl (fun _ => 0))), ((h 2), .inl (ca 2, 36, .inl (fun _ => 0))), ((h 3), .inl (ca 3, 12, .inl (fun _ => 0))), ((h 4), .inl (ca 4, 9, .inl (fun _ => 0))), ((h 5), .inl (ca 5, 608, .inl (fun _ => 0))), ((h 6), .inl (ca 6, 608, .inl (fun _ => 0))), ((h 7), .inl (ca 7, 3060, .inl (fun _ => 0))), ((h 8), .inl (ca 8, 45, .inl (fun _ => 0))), ((h 9), .inl (ca 9, 45, .inl (fun _ => 0)))] := by
  show ([(h 0, .inr (0, [.ref (h 1), .ref (h 2), .ref (h 3), .ref (h 4), .ref (h 5), .ref (h 6), .ref (h 7), .ref (h 8), .ref (h 9), .int (nI 0), .int (nI 0), .int (nI 0)])), (h 1, .inl (ca 1, 12, .inl (nF (fun _ => 0)))), (h 2, .inl (ca 2, 36, .inl (nF (fun _ => 0)))), (h 3, .inl (ca 3, 12, .inl (nF (fun _ => 0)))), (h 4, .inl (ca 4, 9, .inl (nF (fun _ => 0)))), (h 5, .inl (ca 5, 608, .inl (wd (fun _ => false)))), (h 6, .inl (ca 6, 608, .inl (wd (fun _ => false)))), (h 7, .inl (ca 7, 3060, .inl (wd (fun _ => false)))), (h 8, .inl (ca 8, 45, .inl (wd (fun _ => false)))), (h 9, .inl (ca 9, 45, .inl (zF (fun _ => false))))] : va_W) = _
  rw [nF_0, wd_0, zF_0, nI_0]
set_option maxHeartbeats 4000000 in
set_option maxRecDepth 100000 in
theorem mX_init (l : Launch) (D : va_G) (A : Nat → Prop) (h0 : Nat) : Met l yX0_init (ws_ yX0_init cX0_init 1 none) ({ frames := 1, cells := 9, slots := 4435, locals := 12 }) (va_Pc [.ref h0] (fun U => (∀ q, U.heap.size ≤ q → A q) ∧ va_P D vwCl [(h0, .inr (0, [.null, .null, .null, .null, .null, .null, .null, .null, .null, .int 0, .int 0, .int 0]))] U.heap ∧ va_K D vwCl [] U ∧ va_D A [(h0, .inr (0, [.null, .null, .null, .null, .null, .null, .null, .null, .null, .int 0, .int 0, .int 0]))])) (va_Qv (fun u : (Nat → Nat) × (Nat → ClassId) => u.1 0 = h0) (fun u t => va_P D vwCl (wX u.1 u.2 G0 nilF) t.heap ∧ va_K D vwCl (tX u.2) t ∧ va_D A (wX u.1 u.2 G0 nilF)) A) 9 4435 A := by
  refine Met.ofW (cc := cX0_init) (maxL := 1) (ret := none) (by decide) rfl ?_
  intro p e s m args below meth c s₁ B hml hv
  obtain ⟨rfl, hA, hP, hK, hD⟩ := hv
  have hx := B.exec
  have hb := B.bytes
  have hr := B.returns
  have hts := atoms_spec (ws := ws_ yX0_init cX0_init 1 none) B.pre
  have hts : ∀ w ∈ lw_all, w.before _ s = true := fun w h => hts w (List.mem_cons_of_mem _ h)
  have hown : s.vm.findClass RX0 = some m.cls := findClass_of_methodNamed B.named
  have hlocks := B.notSynchronized
  have hin : meth.name = "<init>" := (name_of_methodNamed B.named B.method).1
  have hS : va_S A s.heap s.heap [] := va_S.rf
  have hl := lv_entry ([.ref h0]) (n := 1) (Nat.le_of_ble_eq_true rfl)
  rw [lg_entry_eq]
  generalize (lg_sl ([.ref h0]) ++ List.replicate (1 - (lg_sl ([.ref h0])).length) Slot.unset).toArray = ls at hl ⊢
  have hl : lv_has ls 1 [(0, .ref h0)] := hl
  refine lv_aload_n hx hb dX0_init_0 rfl (lv_at hl 0 rfl) ?_
  refine W.objInit hx hb hown (hts _ q30) (hts _ q31) (hts _ q32) rfl (by rw [hml]; exact hl.1) rfl dX0_init_1 (Nat.le_of_ble_eq_true rfl) (Nat.le_of_ble_eq_true rfl) ?_
  refine W.eq (g2 := F0 m 4 ls []) rfl ?_
  refine lv_aload_n hx hb dX0_init_4 rfl (lv_at hl 0 rfl) ?_
  refine lv_bipush (v := 12) hx hb dX0_init_5 (by decide +kernel) ?_
  refine va_newa (atype := .int) (a0 := (12, .inl (fun _ => 0))) (N' := 12) (ty := .int) hx hb (hts _ q70) rfl hK hP hD hS hA (fun _ => rfl) (by decide +kernel) (by decide +kernel) (by decide +kernel) (Nat.le_of_ble_eq_true rfl) (Nat.le_of_ble_eq_true rfl) dX0_init_7 (fun q1 c1 H hK hP hD hS => ?_)
  refine W.cs (cells' := 1) (slots' := 12) rfl rfl ?_
  have hP : va_P D vwCl [(h0, .inr (0, [.null, .null, .null, .null, .null, .null, .null, .null, .null, .int 0, .int 0, .int 0])), (q1, .inl (c1, 12, .inl (fun _ => 0)))] H := hP
  have hD : va_D A [(h0, .inr (0, [.null, .null, .null, .null, .null, .null, .null, .null, .null, .int 0, .int 0, .int 0])), (q1, .inl (c1, 12, .inl (fun _ => 0)))] := hD
  have hK : va_K D vwCl [(c1, .int)] s := hK
  refine va_putF (D := D) (ci := 0) (v := .ref q1) (ty := .array .int) (C := RX0) (T := TX0) (N := 12) hx hb hts in_X0 tyX0 tyX0_ok nmX0 hown hK hP hD hS 0 rfl rfl 0 (by decide) (hts _ q33) (fun _ h9 => h9) rfl hin rfl (by decide +kernel) rfl rfl (Nat.le_of_ble_eq_true rfl) dX0_init_9 (fun H locs hP hD hS => ?_)
  have hP : va_P D vwCl [(h0, .inr (0, [.ref q1, .null, .null, .null, .null, .null, .null, .null, .null, .int 0, .int 0, .int 0])), (q1, .inl (c1, 12, .inl (fun _ => 0)))] H := hP
  have hD : va_D A [(h0, .inr (0, [.ref q1, .null, .null, .null, .null, .null, .null, .null, .null, .int 0, .int 0, .int 0])), (q1, .inl (c1, 12, .inl (fun _ => 0)))] := hD
  refine lv_aload_n hx hb dX0_init_12 rfl (lv_at hl 0 rfl) ?_
  refine lv_bipush (v := 36) hx hb dX0_init_13 (by decide +kernel) ?_
  refine va_newa (atype := .int) (a0 := (36, .inl (fun _ => 0))) (N' := 36) (ty := .int) hx hb (hts _ q70) rfl hK hP hD hS hA (fun _ => rfl) (by decide +kernel) (by decide +kernel) (by decide +kernel) (Nat.le_of_ble_eq_true rfl) (Nat.le_of_ble_eq_true rfl) dX0_init_15 (fun q2 c2 H hK hP hD hS => ?_)
  refine W.cs (cells' := 2) (slots' := 48) rfl rfl ?_
  have hP : va_P D vwCl [(h0, .inr (0, [.ref q1, .null, .null, .null, .null, .null, .null, .null, .null, .int 0, .int 0, .int 0])), (q1, .inl (c1, 12, .inl (fun _ => 0))), (q2, .inl (c2, 36, .inl (fun _ => 0)))] H := hP
  have hD : va_D A [(h0, .inr (0, [.ref q1, .null, .null, .null, .null, .null, .null, .null, .null, .int 0, .int 0, .int 0])), (q1, .inl (c1, 12, .inl (fun _ => 0))), (q2, .inl (c2, 36, .inl (fun _ => 0)))] := hD
  have hK : va_K D vwCl [(c1, .int), (c2, .int)] s := hK
  refine va_putF (D := D) (ci := 0) (v := .ref q2) (ty := .array .int) (C := RX0) (T := TX0) (N := 12) hx hb hts in_X0 tyX0 tyX0_ok nmX0 hown hK hP hD hS 0 rfl rfl 1 (by decide) (hts _ q34) (fun _ h9 => h9) rfl hin rfl (by decide +kernel) rfl rfl (Nat.le_of_ble_eq_true rfl) dX0_init_17 (fun H locs hP hD hS => ?_)
  have hP : va_P D vwCl [(h0, .inr (0, [.ref q1, .ref q2, .null, .null, .null, .null, .null, .null, .null, .int 0, .int 0, .int 0])), (q1, .inl (c1, 12, .inl (fun _ => 0))), (q2, .inl (c2, 36, .inl (fun _ => 0)))] H := hP
  have hD : va_D A [(h0, .inr (0, [.ref q1, .ref q2, .null, .null, .null, .null, .null, .null, .null, .int 0, .int 0, .int 0])), (q1, .inl (c1, 12, .inl (fun _ => 0))), (q2, .inl (c2, 36, .inl (fun _ => 0)))] := hD
  refine lv_aload_n hx hb dX0_init_20 rfl (lv_at hl 0 rfl) ?_
  refine lv_bipush (v := 12) hx hb dX0_init_21 (by decide +kernel) ?_
  refine va_newa (atype := .int) (a0 := (12, .inl (fun _ => 0))) (N' := 12) (ty := .int) hx hb (hts _ q70) rfl hK hP hD hS hA (fun _ => rfl) (by decide +kernel) (by decide +kernel) (by decide +kernel) (Nat.le_of_ble_eq_true rfl) (Nat.le_of_ble_eq_true rfl) dX0_init_23 (fun q3 c3 H hK hP hD hS => ?_)
  refine W.cs (cells' := 3) (slots' := 60) rfl rfl ?_
  have hP : va_P D vwCl [(h0, .inr (0, [.ref q1, .ref q2, .null, .null, .null, .null, .null, .null, .null, .int 0, .int 0, .int 0])), (q1, .inl (c1, 12, .inl (fun _ => 0))), (q2, .inl (c2, 36, .inl (fun _ => 0))), (q3, .inl (c3, 12, .inl (fun _ => 0)))] H := hP
  have hD : va_D A [(h0, .inr (0, [.ref q1, .ref q2, .null, .null, .null, .null, .null, .null, .null, .int 0, .int 0, .int 0])), (q1, .inl (c1, 12, .inl (fun _ => 0))), (q2, .inl (c2, 36, .inl (fun _ => 0))), (q3, .inl (c3, 12, .inl (fun _ => 0)))] := hD
  have hK : va_K D vwCl [(c1, .int), (c2, .int), (c3, .int)] s := hK
  refine va_putF (D := D) (ci := 0) (v := .ref q3) (ty := .array .int) (C := RX0) (T := TX0) (N := 12) hx hb hts in_X0 tyX0 tyX0_ok nmX0 hown hK hP hD hS 0 rfl rfl 2 (by decide) (hts _ q35) (fun _ h9 => h9) rfl hin rfl (by decide +kernel) rfl rfl (Nat.le_of_ble_eq_true rfl) dX0_init_25 (fun H locs hP hD hS => ?_)
  have hP : va_P D vwCl [(h0, .inr (0, [.ref q1, .ref q2, .ref q3, .null, .null, .null, .null, .null, .null, .int 0, .int 0, .int 0])), (q1, .inl (c1, 12, .inl (fun _ => 0))), (q2, .inl (c2, 36, .inl (fun _ => 0))), (q3, .inl (c3, 12, .inl (fun _ => 0)))] H := hP
  have hD : va_D A [(h0, .inr (0, [.ref q1, .ref q2, .ref q3, .null, .null, .null, .null, .null, .null, .int 0, .int 0, .int 0])), (q1, .inl (c1, 12, .inl (fun _ => 0))), (q2, .inl (c2, 36, .inl (fun _ => 0))), (q3, .inl (c3, 12, .inl (fun _ => 0)))] := hD
  refine lv_aload_n hx hb dX0_init_28 rfl (lv_at hl 0 rfl) ?_
  refine lv_bipush (v := 9) hx hb dX0_init_29 (by decide +kernel) ?_
  refine va_newa (atype := .int) (a0 := (9, .inl (fun _ => 0))) (N' := 9) (ty := .int) hx hb (hts _ q70) rfl hK hP hD hS hA (fun _ => rfl) (by decide +kernel) (by decide +kernel) (by decide +kernel) (Nat.le_of_ble_eq_true rfl) (Nat.le_of_ble_eq_true rfl) dX0_init_31 (fun q4 c4 H hK hP hD hS => ?_)
  refine W.cs (cells' := 4) (slots' := 69) rfl rfl ?_
  have hP : va_P D vwCl [(h0, .inr (0, [.ref q1, .ref q2, .ref q3, .null, .null, .null, .null, .null, .null, .int 0, .int 0, .int 0])), (q1, .inl (c1, 12, .inl (fun _ => 0))), (q2, .inl (c2, 36, .inl (fun _ => 0))), (q3, .inl (c3, 12, .inl (fun _ => 0))), (q4, .inl (c4, 9, .inl (fun _ => 0)))] H := hP
  have hD : va_D A [(h0, .inr (0, [.ref q1, .ref q2, .ref q3, .null, .null, .null, .null, .null, .null, .int 0, .int 0, .int 0])), (q1, .inl (c1, 12, .inl (fun _ => 0))), (q2, .inl (c2, 36, .inl (fun _ => 0))), (q3, .inl (c3, 12, .inl (fun _ => 0))), (q4, .inl (c4, 9, .inl (fun _ => 0)))] := hD
  have hK : va_K D vwCl [(c1, .int), (c2, .int), (c3, .int), (c4, .int)] s := hK
  refine va_putF (D := D) (ci := 0) (v := .ref q4) (ty := .array .int) (C := RX0) (T := TX0) (N := 12) hx hb hts in_X0 tyX0 tyX0_ok nmX0 hown hK hP hD hS 0 rfl rfl 3 (by decide) (hts _ q36) (fun _ h9 => h9) rfl hin rfl (by decide +kernel) rfl rfl (Nat.le_of_ble_eq_true rfl) dX0_init_33 (fun H locs hP hD hS => ?_)
  have hP : va_P D vwCl [(h0, .inr (0, [.ref q1, .ref q2, .ref q3, .ref q4, .null, .null, .null, .null, .null, .int 0, .int 0, .int 0])), (q1, .inl (c1, 12, .inl (fun _ => 0))), (q2, .inl (c2, 36, .inl (fun _ => 0))), (q3, .inl (c3, 12, .inl (fun _ => 0))), (q4, .inl (c4, 9, .inl (fun _ => 0)))] H := hP
  have hD : va_D A [(h0, .inr (0, [.ref q1, .ref q2, .ref q3, .ref q4, .null, .null, .null, .null, .null, .int 0, .int 0, .int 0])), (q1, .inl (c1, 12, .inl (fun _ => 0))), (q2, .inl (c2, 36, .inl (fun _ => 0))), (q3, .inl (c3, 12, .inl (fun _ => 0))), (q4, .inl (c4, 9, .inl (fun _ => 0)))] := hD
  refine lv_aload_n hx hb dX0_init_36 rfl (lv_at hl 0 rfl) ?_
  refine lv_sipush (v := 608) hx hb dX0_init_37 (by decide +kernel) ?_
  refine va_newa (atype := .int) (a0 := (608, .inl (fun _ => 0))) (N' := 608) (ty := .int) hx hb (hts _ q70) rfl hK hP hD hS hA (fun _ => rfl) (by decide +kernel) (by decide +kernel) (by decide +kernel) (Nat.le_of_ble_eq_true rfl) (Nat.le_of_ble_eq_true rfl) dX0_init_40 (fun q5 c5 H hK hP hD hS => ?_)
  refine W.cs (cells' := 5) (slots' := 677) rfl rfl ?_
  have hP : va_P D vwCl [(h0, .inr (0, [.ref q1, .ref q2, .ref q3, .ref q4, .null, .null, .null, .null, .null, .int 0, .int 0, .int 0])), (q1, .inl (c1, 12, .inl (fun _ => 0))), (q2, .inl (c2, 36, .inl (fun _ => 0))), (q3, .inl (c3, 12, .inl (fun _ => 0))), (q4, .inl (c4, 9, .inl (fun _ => 0))), (q5, .inl (c5, 608, .inl (fun _ => 0)))] H := hP
  have hD : va_D A [(h0, .inr (0, [.ref q1, .ref q2, .ref q3, .ref q4, .null, .null, .null, .null, .null, .int 0, .int 0, .int 0])), (q1, .inl (c1, 12, .inl (fun _ => 0))), (q2, .inl (c2, 36, .inl (fun _ => 0))), (q3, .inl (c3, 12, .inl (fun _ => 0))), (q4, .inl (c4, 9, .inl (fun _ => 0))), (q5, .inl (c5, 608, .inl (fun _ => 0)))] := hD
  have hK : va_K D vwCl [(c1, .int), (c2, .int), (c3, .int), (c4, .int), (c5, .int)] s := hK
  refine va_putF (D := D) (ci := 0) (v := .ref q5) (ty := .array .int) (C := RX0) (T := TX0) (N := 12) hx hb hts in_X0 tyX0 tyX0_ok nmX0 hown hK hP hD hS 0 rfl rfl 4 (by decide) (hts _ q37) (fun _ h9 => h9) rfl hin rfl (by decide +kernel) rfl rfl (Nat.le_of_ble_eq_true rfl) dX0_init_42 (fun H locs hP hD hS => ?_)
  have hP : va_P D vwCl [(h0, .inr (0, [.ref q1, .ref q2, .ref q3, .ref q4, .ref q5, .null, .null, .null, .null, .int 0, .int 0, .int 0])), (q1, .inl (c1, 12, .inl (fun _ => 0))), (q2, .inl (c2, 36, .inl (fun _ => 0))), (q3, .inl (c3, 12, .inl (fun _ => 0))), (q4, .inl (c4, 9, .inl (fun _ => 0))), (q5, .inl (c5, 608, .inl (fun _ => 0)))] H := hP
  have hD : va_D A [(h0, .inr (0, [.ref q1, .ref q2, .ref q3, .ref q4, .ref q5, .null, .null, .null, .null, .int 0, .int 0, .int 0])), (q1, .inl (c1, 12, .inl (fun _ => 0))), (q2, .inl (c2, 36, .inl (fun _ => 0))), (q3, .inl (c3, 12, .inl (fun _ => 0))), (q4, .inl (c4, 9, .inl (fun _ => 0))), (q5, .inl (c5, 608, .inl (fun _ => 0)))] := hD
  refine lv_aload_n hx hb dX0_init_45 rfl (lv_at hl 0 rfl) ?_
  refine lv_sipush (v := 608) hx hb dX0_init_46 (by decide +kernel) ?_
  refine va_newa (atype := .int) (a0 := (608, .inl (fun _ => 0))) (N' := 608) (ty := .int) hx hb (hts _ q70) rfl hK hP hD hS hA (fun _ => rfl) (by decide +kernel) (by decide +kernel) (by decide +kernel) (Nat.le_of_ble_eq_true rfl) (Nat.le_of_ble_eq_true rfl) dX0_init_49 (fun q6 c6 H hK hP hD hS => ?_)
  refine W.cs (cells' := 6) (slots' := 1285) rfl rfl ?_
  have hP : va_P D vwCl [(h0, .inr (0, [.ref q1, .ref q2, .ref q3, .ref q4, .ref q5, .null, .null, .null, .null, .int 0, .int 0, .int 0])), (q1, .inl (c1, 12, .inl (fun _ => 0))), (q2, .inl (c2, 36, .inl (fun _ => 0))), (q3, .inl (c3, 12, .inl (fun _ => 0))), (q4, .inl (c4, 9, .inl (fun _ => 0))), (q5, .inl (c5, 608, .inl (fun _ => 0))), (q6, .inl (c6, 608, .inl (fun _ => 0)))] H := hP
  have hD : va_D A [(h0, .inr (0, [.ref q1, .ref q2, .ref q3, .ref q4, .ref q5, .null, .null, .null, .null, .int 0, .int 0, .int 0])), (q1, .inl (c1, 12, .inl (fun _ => 0))), (q2, .inl (c2, 36, .inl (fun _ => 0))), (q3, .inl (c3, 12, .inl (fun _ => 0))), (q4, .inl (c4, 9, .inl (fun _ => 0))), (q5, .inl (c5, 608, .inl (fun _ => 0))), (q6, .inl (c6, 608, .inl (fun _ => 0)))] := hD
  have hK : va_K D vwCl [(c1, .int), (c2, .int), (c3, .int), (c4, .int), (c5, .int), (c6, .int)] s := hK
  refine va_putF (D := D) (ci := 0) (v := .ref q6) (ty := .array .int) (C := RX0) (T := TX0) (N := 12) hx hb hts in_X0 tyX0 tyX0_ok nmX0 hown hK hP hD hS 0 rfl rfl 5 (by decide) (hts _ q38) (fun _ h9 => h9) rfl hin rfl (by decide +kernel) rfl rfl (Nat.le_of_ble_eq_true rfl) dX0_init_51 (fun H locs hP hD hS => ?_)
  have hP : va_P D vwCl [(h0, .inr (0, [.ref q1, .ref q2, .ref q3, .ref q4, .ref q5, .ref q6, .null, .null, .null, .int 0, .int 0, .int 0])), (q1, .inl (c1, 12, .inl (fun _ => 0))), (q2, .inl (c2, 36, .inl (fun _ => 0))), (q3, .inl (c3, 12, .inl (fun _ => 0))), (q4, .inl (c4, 9, .inl (fun _ => 0))), (q5, .inl (c5, 608, .inl (fun _ => 0))), (q6, .inl (c6, 608, .inl (fun _ => 0)))] H := hP
  have hD : va_D A [(h0, .inr (0, [.ref q1, .ref q2, .ref q3, .ref q4, .ref q5, .ref q6, .null, .null, .null, .int 0, .int 0, .int 0])), (q1, .inl (c1, 12, .inl (fun _ => 0))), (q2, .inl (c2, 36, .inl (fun _ => 0))), (q3, .inl (c3, 12, .inl (fun _ => 0))), (q4, .inl (c4, 9, .inl (fun _ => 0))), (q5, .inl (c5, 608, .inl (fun _ => 0))), (q6, .inl (c6, 608, .inl (fun _ => 0)))] := hD
  refine lv_aload_n hx hb dX0_init_54 rfl (lv_at hl 0 rfl) ?_
  refine lv_sipush (v := 3060) hx hb dX0_init_55 (by decide +kernel) ?_
  refine va_newa (atype := .int) (a0 := (3060, .inl (fun _ => 0))) (N' := 3060) (ty := .int) hx hb (hts _ q70) rfl hK hP hD hS hA (fun _ => rfl) (by decide +kernel) (by decide +kernel) (by decide +kernel) (Nat.le_of_ble_eq_true rfl) (Nat.le_of_ble_eq_true rfl) dX0_init_58 (fun q7 c7 H hK hP hD hS => ?_)
  refine W.cs (cells' := 7) (slots' := 4345) rfl rfl ?_
  have hP : va_P D vwCl [(h0, .inr (0, [.ref q1, .ref q2, .ref q3, .ref q4, .ref q5, .ref q6, .null, .null, .null, .int 0, .int 0, .int 0])), (q1, .inl (c1, 12, .inl (fun _ => 0))), (q2, .inl (c2, 36, .inl (fun _ => 0))), (q3, .inl (c3, 12, .inl (fun _ => 0))), (q4, .inl (c4, 9, .inl (fun _ => 0))), (q5, .inl (c5, 608, .inl (fun _ => 0))), (q6, .inl (c6, 608, .inl (fun _ => 0))), (q7, .inl (c7, 3060, .inl (fun _ => 0)))] H := hP
  have hD : va_D A [(h0, .inr (0, [.ref q1, .ref q2, .ref q3, .ref q4, .ref q5, .ref q6, .null, .null, .null, .int 0, .int 0, .int 0])), (q1, .inl (c1, 12, .inl (fun _ => 0))), (q2, .inl (c2, 36, .inl (fun _ => 0))), (q3, .inl (c3, 12, .inl (fun _ => 0))), (q4, .inl (c4, 9, .inl (fun _ => 0))), (q5, .inl (c5, 608, .inl (fun _ => 0))), (q6, .inl (c6, 608, .inl (fun _ => 0))), (q7, .inl (c7, 3060, .inl (fun _ => 0)))] := hD
  have hK : va_K D vwCl [(c1, .int), (c2, .int), (c3, .int), (c4, .int), (c5, .int), (c6, .int), (c7, .int)] s := hK
  refine va_putF (D := D) (ci := 0) (v := .ref q7) (ty := .array .int) (C := RX0) (T := TX0) (N := 12) hx hb hts in_X0 tyX0 tyX0_ok nmX0 hown hK hP hD hS 0 rfl rfl 6 (by decide) (hts _ q39) (fun _ h9 => h9) rfl hin rfl (by decide +kernel) rfl rfl (Nat.le_of_ble_eq_true rfl) dX0_init_60 (fun H locs hP hD hS => ?_)
  have hP : va_P D vwCl [(h0, .inr (0, [.ref q1, .ref q2, .ref q3, .ref q4, .ref q5, .ref q6, .ref q7, .null, .null, .int 0, .int 0, .int 0])), (q1, .inl (c1, 12, .inl (fun _ => 0))), (q2, .inl (c2, 36, .inl (fun _ => 0))), (q3, .inl (c3, 12, .inl (fun _ => 0))), (q4, .inl (c4, 9, .inl (fun _ => 0))), (q5, .inl (c5, 608, .inl (fun _ => 0))), (q6, .inl (c6, 608, .inl (fun _ => 0))), (q7, .inl (c7, 3060, .inl (fun _ => 0)))] H := hP
  have hD : va_D A [(h0, .inr (0, [.ref q1, .ref q2, .ref q3, .ref q4, .ref q5, .ref q6, .ref q7, .null, .null, .int 0, .int 0, .int 0])), (q1, .inl (c1, 12, .inl (fun _ => 0))), (q2, .inl (c2, 36, .inl (fun _ => 0))), (q3, .inl (c3, 12, .inl (fun _ => 0))), (q4, .inl (c4, 9, .inl (fun _ => 0))), (q5, .inl (c5, 608, .inl (fun _ => 0))), (q6, .inl (c6, 608, .inl (fun _ => 0))), (q7, .inl (c7, 3060, .inl (fun _ => 0)))] := hD
  refine lv_aload_n hx hb dX0_init_63 rfl (lv_at hl 0 rfl) ?_
  refine lv_bipush (v := 45) hx hb dX0_init_64 (by decide +kernel) ?_
  refine va_newa (atype := .int) (a0 := (45, .inl (fun _ => 0))) (N' := 45) (ty := .int) hx hb (hts _ q70) rfl hK hP hD hS hA (fun _ => rfl) (by decide +kernel) (by decide +kernel) (by decide +kernel) (Nat.le_of_ble_eq_true rfl) (Nat.le_of_ble_eq_true rfl) dX0_init_66 (fun q8 c8 H hK hP hD hS => ?_)
  refine W.cs (cells' := 8) (slots' := 4390) rfl rfl ?_
  have hP : va_P D vwCl [(h0, .inr (0, [.ref q1, .ref q2, .ref q3, .ref q4, .ref q5, .ref q6, .ref q7, .null, .null, .int 0, .int 0, .int 0])), (q1, .inl (c1, 12, .inl (fun _ => 0))), (q2, .inl (c2, 36, .inl (fun _ => 0))), (q3, .inl (c3, 12, .inl (fun _ => 0))), (q4, .inl (c4, 9, .inl (fun _ => 0))), (q5, .inl (c5, 608, .inl (fun _ => 0))), (q6, .inl (c6, 608, .inl (fun _ => 0))), (q7, .inl (c7, 3060, .inl (fun _ => 0))), (q8, .inl (c8, 45, .inl (fun _ => 0)))] H := hP
  have hD : va_D A [(h0, .inr (0, [.ref q1, .ref q2, .ref q3, .ref q4, .ref q5, .ref q6, .ref q7, .null, .null, .int 0, .int 0, .int 0])), (q1, .inl (c1, 12, .inl (fun _ => 0))), (q2, .inl (c2, 36, .inl (fun _ => 0))), (q3, .inl (c3, 12, .inl (fun _ => 0))), (q4, .inl (c4, 9, .inl (fun _ => 0))), (q5, .inl (c5, 608, .inl (fun _ => 0))), (q6, .inl (c6, 608, .inl (fun _ => 0))), (q7, .inl (c7, 3060, .inl (fun _ => 0))), (q8, .inl (c8, 45, .inl (fun _ => 0)))] := hD
  have hK : va_K D vwCl [(c1, .int), (c2, .int), (c3, .int), (c4, .int), (c5, .int), (c6, .int), (c7, .int), (c8, .int)] s := hK
  refine va_putF (D := D) (ci := 0) (v := .ref q8) (ty := .array .int) (C := RX0) (T := TX0) (N := 12) hx hb hts in_X0 tyX0 tyX0_ok nmX0 hown hK hP hD hS 0 rfl rfl 7 (by decide) (hts _ q40) (fun _ h9 => h9) rfl hin rfl (by decide +kernel) rfl rfl (Nat.le_of_ble_eq_true rfl) dX0_init_68 (fun H locs hP hD hS => ?_)
  have hP : va_P D vwCl [(h0, .inr (0, [.ref q1, .ref q2, .ref q3, .ref q4, .ref q5, .ref q6, .ref q7, .ref q8, .null, .int 0, .int 0, .int 0])), (q1, .inl (c1, 12, .inl (fun _ => 0))), (q2, .inl (c2, 36, .inl (fun _ => 0))), (q3, .inl (c3, 12, .inl (fun _ => 0))), (q4, .inl (c4, 9, .inl (fun _ => 0))), (q5, .inl (c5, 608, .inl (fun _ => 0))), (q6, .inl (c6, 608, .inl (fun _ => 0))), (q7, .inl (c7, 3060, .inl (fun _ => 0))), (q8, .inl (c8, 45, .inl (fun _ => 0)))] H := hP
  have hD : va_D A [(h0, .inr (0, [.ref q1, .ref q2, .ref q3, .ref q4, .ref q5, .ref q6, .ref q7, .ref q8, .null, .int 0, .int 0, .int 0])), (q1, .inl (c1, 12, .inl (fun _ => 0))), (q2, .inl (c2, 36, .inl (fun _ => 0))), (q3, .inl (c3, 12, .inl (fun _ => 0))), (q4, .inl (c4, 9, .inl (fun _ => 0))), (q5, .inl (c5, 608, .inl (fun _ => 0))), (q6, .inl (c6, 608, .inl (fun _ => 0))), (q7, .inl (c7, 3060, .inl (fun _ => 0))), (q8, .inl (c8, 45, .inl (fun _ => 0)))] := hD
  refine lv_aload_n hx hb dX0_init_71 rfl (lv_at hl 0 rfl) ?_
  refine lv_bipush (v := 45) hx hb dX0_init_72 (by decide +kernel) ?_
  refine va_newa (atype := .boolean) (a0 := (45, .inl (fun _ => 0))) (N' := 45) (ty := .boolean) hx hb (hts _ q71) rfl hK hP hD hS hA (fun _ => rfl) (by decide +kernel) (by decide +kernel) (by decide +kernel) (Nat.le_of_ble_eq_true rfl) (Nat.le_of_ble_eq_true rfl) dX0_init_74 (fun q9 c9 H hK hP hD hS => ?_)
  refine W.cs (cells' := 9) (slots' := 4435) rfl rfl ?_
  have hP : va_P D vwCl [(h0, .inr (0, [.ref q1, .ref q2, .ref q3, .ref q4, .ref q5, .ref q6, .ref q7, .ref q8, .null, .int 0, .int 0, .int 0])), (q1, .inl (c1, 12, .inl (fun _ => 0))), (q2, .inl (c2, 36, .inl (fun _ => 0))), (q3, .inl (c3, 12, .inl (fun _ => 0))), (q4, .inl (c4, 9, .inl (fun _ => 0))), (q5, .inl (c5, 608, .inl (fun _ => 0))), (q6, .inl (c6, 608, .inl (fun _ => 0))), (q7, .inl (c7, 3060, .inl (fun _ => 0))), (q8, .inl (c8, 45, .inl (fun _ => 0))), (q9, .inl (c9, 45, .inl (fun _ => 0)))] H := hP
  have hD : va_D A [(h0, .inr (0, [.ref q1, .ref q2, .ref q3, .ref q4, .ref q5, .ref q6, .ref q7, .ref q8, .null, .int 0, .int 0, .int 0])), (q1, .inl (c1, 12, .inl (fun _ => 0))), (q2, .inl (c2, 36, .inl (fun _ => 0))), (q3, .inl (c3, 12, .inl (fun _ => 0))), (q4, .inl (c4, 9, .inl (fun _ => 0))), (q5, .inl (c5, 608, .inl (fun _ => 0))), (q6, .inl (c6, 608, .inl (fun _ => 0))), (q7, .inl (c7, 3060, .inl (fun _ => 0))), (q8, .inl (c8, 45, .inl (fun _ => 0))), (q9, .inl (c9, 45, .inl (fun _ => 0)))] := hD
  have hK : va_K D vwCl [(c1, .int), (c2, .int), (c3, .int), (c4, .int), (c5, .int), (c6, .int), (c7, .int), (c8, .int), (c9, .boolean)] s := hK
  refine va_putF (D := D) (ci := 0) (v := .ref q9) (ty := .array .boolean) (C := RX0) (T := TX0) (N := 12) hx hb hts in_X0 tyX0 tyX0_ok nmX0 hown hK hP hD hS 0 rfl rfl 8 (by decide) (hts _ q41) (fun _ h9 => h9) rfl hin rfl (by decide +kernel) rfl rfl (Nat.le_of_ble_eq_true rfl) dX0_init_76 (fun H locs hP hD hS => ?_)
  have hP : va_P D vwCl [(h0, .inr (0, [.ref q1, .ref q2, .ref q3, .ref q4, .ref q5, .ref q6, .ref q7, .ref q8, .ref q9, .int 0, .int 0, .int 0])), (q1, .inl (c1, 12, .inl (fun _ => 0))), (q2, .inl (c2, 36, .inl (fun _ => 0))), (q3, .inl (c3, 12, .inl (fun _ => 0))), (q4, .inl (c4, 9, .inl (fun _ => 0))), (q5, .inl (c5, 608, .inl (fun _ => 0))), (q6, .inl (c6, 608, .inl (fun _ => 0))), (q7, .inl (c7, 3060, .inl (fun _ => 0))), (q8, .inl (c8, 45, .inl (fun _ => 0))), (q9, .inl (c9, 45, .inl (fun _ => 0)))] H := hP
  have hD : va_D A [(h0, .inr (0, [.ref q1, .ref q2, .ref q3, .ref q4, .ref q5, .ref q6, .ref q7, .ref q8, .ref q9, .int 0, .int 0, .int 0])), (q1, .inl (c1, 12, .inl (fun _ => 0))), (q2, .inl (c2, 36, .inl (fun _ => 0))), (q3, .inl (c3, 12, .inl (fun _ => 0))), (q4, .inl (c4, 9, .inl (fun _ => 0))), (q5, .inl (c5, 608, .inl (fun _ => 0))), (q6, .inl (c6, 608, .inl (fun _ => 0))), (q7, .inl (c7, 3060, .inl (fun _ => 0))), (q8, .inl (c8, 45, .inl (fun _ => 0))), (q9, .inl (c9, 45, .inl (fun _ => 0)))] := hD
  refine lv_aload_n hx hb dX0_init_79 rfl (lv_at hl 0 rfl) ?_
  refine lv_iconst (v := 0) hx hb dX0_init_80 (by decide) ?_
  refine va_put (D := D) (ci := 0) (v := .int 0) (ty := .int) (C := RX0) (T := TX0) (N := 12) hx hb hts in_X0 tyX0 tyX0_ok nmX0 hown hK hP hD hS 0 rfl rfl 9 (by decide) (hts _ q42) (fun _ h9 => h9) rfl (by decide +kernel) rfl rfl (Nat.le_of_ble_eq_true rfl) dX0_init_81 (fun H locs hP hD hS => ?_)
  have hP : va_P D vwCl [(h0, .inr (0, [.ref q1, .ref q2, .ref q3, .ref q4, .ref q5, .ref q6, .ref q7, .ref q8, .ref q9, .int 0, .int 0, .int 0])), (q1, .inl (c1, 12, .inl (fun _ => 0))), (q2, .inl (c2, 36, .inl (fun _ => 0))), (q3, .inl (c3, 12, .inl (fun _ => 0))), (q4, .inl (c4, 9, .inl (fun _ => 0))), (q5, .inl (c5, 608, .inl (fun _ => 0))), (q6, .inl (c6, 608, .inl (fun _ => 0))), (q7, .inl (c7, 3060, .inl (fun _ => 0))), (q8, .inl (c8, 45, .inl (fun _ => 0))), (q9, .inl (c9, 45, .inl (fun _ => 0)))] H := hP
  have hD : va_D A [(h0, .inr (0, [.ref q1, .ref q2, .ref q3, .ref q4, .ref q5, .ref q6, .ref q7, .ref q8, .ref q9, .int 0, .int 0, .int 0])), (q1, .inl (c1, 12, .inl (fun _ => 0))), (q2, .inl (c2, 36, .inl (fun _ => 0))), (q3, .inl (c3, 12, .inl (fun _ => 0))), (q4, .inl (c4, 9, .inl (fun _ => 0))), (q5, .inl (c5, 608, .inl (fun _ => 0))), (q6, .inl (c6, 608, .inl (fun _ => 0))), (q7, .inl (c7, 3060, .inl (fun _ => 0))), (q8, .inl (c8, 45, .inl (fun _ => 0))), (q9, .inl (c9, 45, .inl (fun _ => 0)))] := hD
  have e := wX_nil (fun k => [h0, q1, q2, q3, q4, q5, q6, q7, q8, q9].getD k 0) (fun k => [c1, c1, c2, c3, c4, c5, c6, c7, c8, c9].getD k c1)
  have hP : va_P D vwCl (wX (fun k => [h0, q1, q2, q3, q4, q5, q6, q7, q8, q9].getD k 0) (fun k => [c1, c1, c2, c3, c4, c5, c6, c7, c8, c9].getD k c1) G0 nilF) H := by rw [e]; exact hP
  have hD : va_D A (wX (fun k => [h0, q1, q2, q3, q4, q5, q6, q7, q8, q9].getD k 0) (fun k => [c1, c1, c2, c3, c4, c5, c6, c7, c8, c9].getD k c1) G0 nilF) := by rw [e]; exact hD
  have hK : va_K D vwCl (tX (fun k => [c1, c1, c2, c3, c4, c5, c6, c7, c8, c9].getD k c1)) s := hK
  exact W.vret hx hb hr (fun t ht hW => ⟨⟨((fun k => [h0, q1, q2, q3, q4, q5, q6, q7, q8, q9].getD k 0), (fun k => [c1, c1, c2, c3, c4, c5, c6, c7, c8, c9].getD k c1)), rfl, rfl, by rw [ht]; exact hP, va_K.moved hW.alike hK, hD⟩, hS.F ht⟩) hS.2.2 dX0_init_84
theorem wM_nil (h : Nat → Nat) (ca : Nat → ClassId) : wM h ca M0 = [(h 0, .inr (1, [.int 0, .ref (h 1), .ref (h 2), .int 0, .ref (h 3), .ref (h 4)])), ((h 1), .inl (ca 1, 12, .inl (fun _ => 0))), ((h 2), .inl (ca 2, 12, .inl (fun _ => 0))), ((h 3), .inl (ca 3, 8, .inl (fun _ => 0))), ((h 4), .inl (ca 4, 405, .inl (fun _ => 0)))] := by
  show ([(h 0, .inr (1, [.int (nI 0), .ref (h 1), .ref (h 2), .int (nI 0), .ref (h 3), .ref (h 4)])), (h 1, .inl (ca 1, 12, .inl (nF (fun _ => 0)))), (h 2, .inl (ca 2, 12, .inl (nF (fun _ => 0)))), (h 3, .inl (ca 3, 8, .inl (nF (fun _ => 0)))), (h 4, .inl (ca 4, 405, .inl (zF (fun _ => false))))] : va_W) = _
  rw [nF_0, zF_0, nI_0]
set_option maxHeartbeats 4000000 in
set_option maxRecDepth 100000 in
theorem mM_init (l : Launch) (D : va_G) (A : Nat → Prop) (h0 : Nat) : Met l yX1_init (ws_ yX1_init cX1_init 1 none) ({ frames := 1, cells := 4, slots := 437, locals := 12 }) (va_Pc [.ref h0] (fun U => (∀ q, U.heap.size ≤ q → A q) ∧ va_P D vwCl [(h0, .inr (1, [.int 0, .null, .null, .int 0, .null, .null]))] U.heap ∧ va_K D vwCl [] U ∧ va_D A [(h0, .inr (1, [.int 0, .null, .null, .int 0, .null, .null]))])) (va_Qv (fun u : (Nat → Nat) × (Nat → ClassId) => u.1 0 = h0) (fun u t => va_P D vwCl (wM u.1 u.2 M0) t.heap ∧ va_K D vwCl (tM u.2) t ∧ va_D A (wM u.1 u.2 M0)) A) 4 437 A := by
  refine Met.ofW (cc := cX1_init) (maxL := 1) (ret := none) (by decide) rfl ?_
  intro p e s m args below meth c s₁ B hml hv
  obtain ⟨rfl, hA, hP, hK, hD⟩ := hv
  have hx := B.exec
  have hb := B.bytes
  have hr := B.returns
  have hts := atoms_spec (ws := ws_ yX1_init cX1_init 1 none) B.pre
  have hts : ∀ w ∈ lw_all, w.before _ s = true := fun w h => hts w (List.mem_cons_of_mem _ h)
  have hown : s.vm.findClass RX1 = some m.cls := findClass_of_methodNamed B.named
  have hlocks := B.notSynchronized
  have hin : meth.name = "<init>" := (name_of_methodNamed B.named B.method).1
  have hS : va_S A s.heap s.heap [] := va_S.rf
  have hl := lv_entry ([.ref h0]) (n := 1) (Nat.le_of_ble_eq_true rfl)
  rw [lg_entry_eq]
  generalize (lg_sl ([.ref h0]) ++ List.replicate (1 - (lg_sl ([.ref h0])).length) Slot.unset).toArray = ls at hl ⊢
  have hl : lv_has ls 1 [(0, .ref h0)] := hl
  refine lv_aload_n hx hb dX1_init_0 rfl (lv_at hl 0 rfl) ?_
  refine W.objInit hx hb hown (hts _ q202) (hts _ q31) (hts _ q32) rfl (by rw [hml]; exact hl.1) rfl dX1_init_1 (Nat.le_of_ble_eq_true rfl) (Nat.le_of_ble_eq_true rfl) ?_
  refine W.eq (g2 := F0 m 4 ls []) rfl ?_
  refine lv_aload_n hx hb dX1_init_4 rfl (lv_at hl 0 rfl) ?_
  refine lv_bipush (v := 12) hx hb dX1_init_5 (by decide +kernel) ?_
  refine va_newa (atype := .int) (a0 := (12, .inl (fun _ => 0))) (N' := 12) (ty := .int) hx hb (hts _ q70) rfl hK hP hD hS hA (fun _ => rfl) (by decide +kernel) (by decide +kernel) (by decide +kernel) (Nat.le_of_ble_eq_true rfl) (Nat.le_of_ble_eq_true rfl) dX1_init_7 (fun q1 c1 H hK hP hD hS => ?_)
  refine W.cs (cells' := 1) (slots' := 12) rfl rfl ?_
  have hP : va_P D vwCl [(h0, .inr (1, [.int 0, .null, .null, .int 0, .null, .null])), (q1, .inl (c1, 12, .inl (fun _ => 0)))] H := hP
  have hD : va_D A [(h0, .inr (1, [.int 0, .null, .null, .int 0, .null, .null])), (q1, .inl (c1, 12, .inl (fun _ => 0)))] := hD
  have hK : va_K D vwCl [(c1, .int)] s := hK
  refine va_put (D := D) (ci := 1) (v := .ref q1) (ty := .array .int) (C := RX1) (T := TX1) (N := 6) hx hb hts in_X1 tyX1 tyX1_ok nmX1 hown hK hP hD hS 0 rfl rfl 1 (by decide) (hts _ q204) (fun _ h9 => h9) rfl (by decide +kernel) rfl rfl (Nat.le_of_ble_eq_true rfl) dX1_init_9 (fun H locs hP hD hS => ?_)
  have hP : va_P D vwCl [(h0, .inr (1, [.int 0, .ref q1, .null, .int 0, .null, .null])), (q1, .inl (c1, 12, .inl (fun _ => 0)))] H := hP
  have hD : va_D A [(h0, .inr (1, [.int 0, .ref q1, .null, .int 0, .null, .null])), (q1, .inl (c1, 12, .inl (fun _ => 0)))] := hD
  refine lv_aload_n hx hb dX1_init_12 rfl (lv_at hl 0 rfl) ?_
  refine lv_bipush (v := 12) hx hb dX1_init_13 (by decide +kernel) ?_
  refine va_newa (atype := .int) (a0 := (12, .inl (fun _ => 0))) (N' := 12) (ty := .int) hx hb (hts _ q70) rfl hK hP hD hS hA (fun _ => rfl) (by decide +kernel) (by decide +kernel) (by decide +kernel) (Nat.le_of_ble_eq_true rfl) (Nat.le_of_ble_eq_true rfl) dX1_init_15 (fun q2 c2 H hK hP hD hS => ?_)
  refine W.cs (cells' := 2) (slots' := 24) rfl rfl ?_
  have hP : va_P D vwCl [(h0, .inr (1, [.int 0, .ref q1, .null, .int 0, .null, .null])), (q1, .inl (c1, 12, .inl (fun _ => 0))), (q2, .inl (c2, 12, .inl (fun _ => 0)))] H := hP
  have hD : va_D A [(h0, .inr (1, [.int 0, .ref q1, .null, .int 0, .null, .null])), (q1, .inl (c1, 12, .inl (fun _ => 0))), (q2, .inl (c2, 12, .inl (fun _ => 0)))] := hD
  have hK : va_K D vwCl [(c1, .int), (c2, .int)] s := hK
  refine va_put (D := D) (ci := 1) (v := .ref q2) (ty := .array .int) (C := RX1) (T := TX1) (N := 6) hx hb hts in_X1 tyX1 tyX1_ok nmX1 hown hK hP hD hS 0 rfl rfl 2 (by decide) (hts _ q205) (fun _ h9 => h9) rfl (by decide +kernel) rfl rfl (Nat.le_of_ble_eq_true rfl) dX1_init_17 (fun H locs hP hD hS => ?_)
  have hP : va_P D vwCl [(h0, .inr (1, [.int 0, .ref q1, .ref q2, .int 0, .null, .null])), (q1, .inl (c1, 12, .inl (fun _ => 0))), (q2, .inl (c2, 12, .inl (fun _ => 0)))] H := hP
  have hD : va_D A [(h0, .inr (1, [.int 0, .ref q1, .ref q2, .int 0, .null, .null])), (q1, .inl (c1, 12, .inl (fun _ => 0))), (q2, .inl (c2, 12, .inl (fun _ => 0)))] := hD
  refine lv_aload_n hx hb dX1_init_20 rfl (lv_at hl 0 rfl) ?_
  refine lv_bipush (v := 8) hx hb dX1_init_21 (by decide +kernel) ?_
  refine va_newa (atype := .int) (a0 := (8, .inl (fun _ => 0))) (N' := 8) (ty := .int) hx hb (hts _ q70) rfl hK hP hD hS hA (fun _ => rfl) (by decide +kernel) (by decide +kernel) (by decide +kernel) (Nat.le_of_ble_eq_true rfl) (Nat.le_of_ble_eq_true rfl) dX1_init_23 (fun q3 c3 H hK hP hD hS => ?_)
  refine W.cs (cells' := 3) (slots' := 32) rfl rfl ?_
  have hP : va_P D vwCl [(h0, .inr (1, [.int 0, .ref q1, .ref q2, .int 0, .null, .null])), (q1, .inl (c1, 12, .inl (fun _ => 0))), (q2, .inl (c2, 12, .inl (fun _ => 0))), (q3, .inl (c3, 8, .inl (fun _ => 0)))] H := hP
  have hD : va_D A [(h0, .inr (1, [.int 0, .ref q1, .ref q2, .int 0, .null, .null])), (q1, .inl (c1, 12, .inl (fun _ => 0))), (q2, .inl (c2, 12, .inl (fun _ => 0))), (q3, .inl (c3, 8, .inl (fun _ => 0)))] := hD
  have hK : va_K D vwCl [(c1, .int), (c2, .int), (c3, .int)] s := hK
  refine va_put (D := D) (ci := 1) (v := .ref q3) (ty := .array .int) (C := RX1) (T := TX1) (N := 6) hx hb hts in_X1 tyX1 tyX1_ok nmX1 hown hK hP hD hS 0 rfl rfl 4 (by decide) (hts _ q207) (fun _ h9 => h9) rfl (by decide +kernel) rfl rfl (Nat.le_of_ble_eq_true rfl) dX1_init_25 (fun H locs hP hD hS => ?_)
  have hP : va_P D vwCl [(h0, .inr (1, [.int 0, .ref q1, .ref q2, .int 0, .ref q3, .null])), (q1, .inl (c1, 12, .inl (fun _ => 0))), (q2, .inl (c2, 12, .inl (fun _ => 0))), (q3, .inl (c3, 8, .inl (fun _ => 0)))] H := hP
  have hD : va_D A [(h0, .inr (1, [.int 0, .ref q1, .ref q2, .int 0, .ref q3, .null])), (q1, .inl (c1, 12, .inl (fun _ => 0))), (q2, .inl (c2, 12, .inl (fun _ => 0))), (q3, .inl (c3, 8, .inl (fun _ => 0)))] := hD
  refine lv_aload_n hx hb dX1_init_28 rfl (lv_at hl 0 rfl) ?_
  refine lv_sipush (v := 405) hx hb dX1_init_29 (by decide +kernel) ?_
  refine va_newa (atype := .boolean) (a0 := (405, .inl (fun _ => 0))) (N' := 405) (ty := .boolean) hx hb (hts _ q71) rfl hK hP hD hS hA (fun _ => rfl) (by decide +kernel) (by decide +kernel) (by decide +kernel) (Nat.le_of_ble_eq_true rfl) (Nat.le_of_ble_eq_true rfl) dX1_init_32 (fun q4 c4 H hK hP hD hS => ?_)
  refine W.cs (cells' := 4) (slots' := 437) rfl rfl ?_
  have hP : va_P D vwCl [(h0, .inr (1, [.int 0, .ref q1, .ref q2, .int 0, .ref q3, .null])), (q1, .inl (c1, 12, .inl (fun _ => 0))), (q2, .inl (c2, 12, .inl (fun _ => 0))), (q3, .inl (c3, 8, .inl (fun _ => 0))), (q4, .inl (c4, 405, .inl (fun _ => 0)))] H := hP
  have hD : va_D A [(h0, .inr (1, [.int 0, .ref q1, .ref q2, .int 0, .ref q3, .null])), (q1, .inl (c1, 12, .inl (fun _ => 0))), (q2, .inl (c2, 12, .inl (fun _ => 0))), (q3, .inl (c3, 8, .inl (fun _ => 0))), (q4, .inl (c4, 405, .inl (fun _ => 0)))] := hD
  have hK : va_K D vwCl [(c1, .int), (c2, .int), (c3, .int), (c4, .boolean)] s := hK
  refine va_put (D := D) (ci := 1) (v := .ref q4) (ty := .array .boolean) (C := RX1) (T := TX1) (N := 6) hx hb hts in_X1 tyX1 tyX1_ok nmX1 hown hK hP hD hS 0 rfl rfl 5 (by decide) (hts _ q208) (fun _ h9 => h9) rfl (by decide +kernel) rfl rfl (Nat.le_of_ble_eq_true rfl) dX1_init_34 (fun H locs hP hD hS => ?_)
  have hP : va_P D vwCl [(h0, .inr (1, [.int 0, .ref q1, .ref q2, .int 0, .ref q3, .ref q4])), (q1, .inl (c1, 12, .inl (fun _ => 0))), (q2, .inl (c2, 12, .inl (fun _ => 0))), (q3, .inl (c3, 8, .inl (fun _ => 0))), (q4, .inl (c4, 405, .inl (fun _ => 0)))] H := hP
  have hD : va_D A [(h0, .inr (1, [.int 0, .ref q1, .ref q2, .int 0, .ref q3, .ref q4])), (q1, .inl (c1, 12, .inl (fun _ => 0))), (q2, .inl (c2, 12, .inl (fun _ => 0))), (q3, .inl (c3, 8, .inl (fun _ => 0))), (q4, .inl (c4, 405, .inl (fun _ => 0)))] := hD
  have e := wM_nil (fun k => [h0, q1, q2, q3, q4].getD k 0) (fun k => [c1, c1, c2, c3, c4].getD k c1)
  have hP : va_P D vwCl (wM (fun k => [h0, q1, q2, q3, q4].getD k 0) (fun k => [c1, c1, c2, c3, c4].getD k c1) M0) H := by rw [e]; exact hP
  have hD : va_D A (wM (fun k => [h0, q1, q2, q3, q4].getD k 0) (fun k => [c1, c1, c2, c3, c4].getD k c1) M0) := by rw [e]; exact hD
  have hK : va_K D vwCl (tM (fun k => [c1, c1, c2, c3, c4].getD k c1)) s := hK
  exact W.vret hx hb hr (fun t ht hW => ⟨⟨((fun k => [h0, q1, q2, q3, q4].getD k 0), (fun k => [c1, c1, c2, c3, c4].getD k c1)), rfl, rfl, by rw [ht]; exact hP, va_K.moved hW.alike hK, hD⟩, hS.F ht⟩) hS.2.2 dX1_init_37
end
section
/-! both sides see one grammar: what follows for their answers -/
def Veq (V V' : VV) : Prop := vCn V = vCn V' ∧ vLn V = vLn V' ∧ (∀ r, r < vCn V → vLf V r = vLf V' r ∧ vSz V r = vSz V' r ∧ ∀ k, k < vSz V r → vSg V r k = vSg V' r k) ∧ ∀ j, j < vLn V → vTx V j = vTx V' j
theorem Veq.sy {V V' : VV} (h : Veq V V') : Veq V' V := by
  obtain ⟨h1, h2, h3, h4⟩ := h
  refine ⟨h1.symm, h2.symm, fun r hr => ?_, fun j hj => (h4 j (by omega)).symm⟩
  obtain ⟨a, b, c⟩ := h3 r (by omega)
  exact ⟨a.symm, b.symm, fun k hk => (c k (by omega)).symm⟩
theorem sgT_eq {V V' : VV} (h : Veq V V') {T : Nat → Nat → Nat → Prop} {s p q : Nat} (g : sgT V T s p q) : sgT V' T s p q := by
  rcases g with ⟨g1, g2, g3, g4⟩ | g
  · exact Or.inl ⟨g1, by rw [← h.2.1]; exact g2, by rw [← h.2.2.2 p g2]; exact g3, g4⟩
  · exact Or.inr g
theorem preT_eq {V V' : VV} (h : Veq V V') {T : Nat → Nat → Nat → Prop} {r i : Nat} (hr : r < vCn V) : ∀ k, k ≤ vSz V r → ∀ q, preT V T r i k q → preT V' T r i k q := by
  intro k
  induction k with
  | zero => exact fun _ _ g => g
  | succ k ih =>
    rintro hk q ⟨p, g1, g2⟩
    refine ⟨p, ih (by omega) p g1, ?_⟩
    rw [← (h.2.2.1 r hr).2.2 k (by omega)]
    exact sgT_eq h g2
theorem closedT_eq {V V' : VV} (h : Veq V V') {T : Nat → Nat → Nat → Prop} (g : closedT V' T) : closedT V T := by
  intro r hr i hi q hp
  rw [(h.2.2.1 r hr).1]
  refine g r (by rw [← h.1]; exact hr) i (by rw [← h.2.1]; exact hi) q ?_
  rw [← (h.2.2.1 r hr).2.1]
  exact preT_eq h hr _ (Nat.le_refl _) q hp
theorem Fits_eq {V V' : VV} (h : Veq V V') {n i j : Nat} (g : Fits V n i j) : Fits V' n i j := fun T hT => g T (closedT_eq h hT)
theorem sfb_fun {V V' : VV} (h : Veq V V') : sfb V = sfb V' := by
  funext s p q
  refine sfb_eq ?_
  rw [sfb_iff]
  exact ⟨fun g => sgT_mono (fun _ _ _ => Fits_eq h) (sgT_eq h g), fun g => sgT_mono (fun _ _ _ => Fits_eq h.sy) (sgT_eq h.sy g)⟩
theorem rfb_same {V V' : VV} (h : Veq V V') {r i j : Nat} (hr : r < vCn V) : rfb V r i j = rfb V' r i j := by
  refine rfb_eq ?_
  have e : rfb V r i j = true ↔ preT V (Fits V) r i (vSz V r) j := @decide_eq_true_iff _ (Classical.propDecidable _)
  rw [e, ← (h.2.2.1 r hr).2.1]
  constructor
  · exact fun g => preT_mono (fun _ _ _ => Fits_eq h) (preT_eq h hr _ (Nat.le_refl _) j g)
  · intro g
    refine preT_mono (fun _ _ _ => Fits_eq h.sy) (preT_eq h.sy (by rw [← h.1]; exact hr) _ (by rw [(h.2.2.1 r hr).2.1]; exact Nat.le_refl _) j g)
theorem fitsA_eq {V V' : VV} (h : Veq V V') (a b d : Int32) : fitsA V a b d = fitsA V' a b d := by unfold fitsA; rw [sfb_fun h, h.2.1]
theorem endsA_eq {V V' : VV} (h : Veq V V') (a b : Int32) : endsA V a b = endsA V' a b := by unfold endsA; rw [sfb_fun h, h.2.1]
theorem ruleFitsA_eq {V V' : VV} (h : Veq V V') (h12 : vCn V ≤ 12) (a b d : Int32) : ruleFitsA V a b d = ruleFitsA V' a b d := by
  unfold ruleFitsA
  rw [← h.2.1, ← h.1]
  by_cases c1 : isR (vCn V) a = true
  · obtain ⟨r, hr, er⟩ := isR_of h12 c1
    rw [if_pos c1, if_pos c1, er, nI_clamp (by omega), rfb_same h hr]
  · rw [if_neg c1, if_neg c1]
theorem strN_eq {V V' : VV} (h : Veq V V') (s : Nat) : ∀ i, strN V s i = strN V' s i := by
  intro i
  induction i with
  | zero => rfl
  | succ i ih => rw [strN, strN, ih, sfb_fun h, h.2.1]
theorem strA_eq {V V' : VV} (h : Veq V V') (a : Int32) : strA V a = strA V' a := by unfold strA; rw [h.2.1, strN_eq h]
theorem lgN_eq {V V' : VV} (h : Veq V V') (s : Nat) : ∀ i, lgN V s i = lgN V' s i := by
  intro i
  induction i with
  | zero => rfl
  | succ i ih => rw [lgN, lgN, ih, sfb_fun h, h.2.1]
theorem lgA_eq {V V' : VV} (h : Veq V V') (a : Int32) : lgA V a = lgA V' a := by unfold lgA; rw [h.2.1, lgN_eq h]
theorem wayA_eq {V V' : VV} (h : Veq V V') (a b d : Int32) : wayA V a b d = wayA V' a b d := by
  have e : ∀ n i j, wayN V n i j = wayN V' n i j := by
    intro n i j
    unfold wayN
    rw [← h.1]
    refine cnt_congr (fun r hr => ?_)
    rw [(h.2.2.1 r hr).1, rfb_same h hr]
  unfold wayA
  rw [e, h.2.1]
theorem plusV_eq {V V' : VV} (h : Veq V V') (c0 : Nat) : Veq (plusV V c0) (plusV V' c0) := by
  obtain ⟨h1, h2, h3, h4⟩ := h
  refine ⟨h1, ?_, h3, ?_⟩
  · show vLn V + 1 = vLn V' + 1
    rw [h2]
  · intro j hj
    have hj : j < vLn V + 1 := hj
    show va_up (vTx V) (vLn V) c0 j = va_up (vTx V') (vLn V') c0 j
    rw [← h2]
    by_cases e : j = vLn V
    · rw [e, va_up_self, va_up_self]
    · rw [va_up_ne _ _ e, va_up_ne _ _ e]
      exact h4 j (by omega)
theorem nxA_eq {V V' : VV} (h : Veq V V') : nxA V = nxA V' := by
  have e : ∀ k, nxN V k = nxN V' k := by
    intro k
    induction k with
    | zero => rfl
    | succ k ih => rw [nxN, nxN, ih, sfb_fun (plusV_eq h _), h.2.1]
  unfold nxA
  rw [e, h.2.1]
/-- the empty stretch: a place is like any other -/
theorem Fits_nil {V : VV} {n i p : Nat} (hi : i ≤ vLn V) (hp : p ≤ vLn V) (g : Fits V n i i) : Fits V n p p := by
  have key : ∀ n i j, Fits V n i j → Fits V n i j ∧ (i ≤ vLn V → i = j → Fits V n p p) := by
    intro n i j g
    refine g (fun n i j => Fits V n i j ∧ (i ≤ vLn V → i = j → Fits V n p p)) ?_
    intro r hr i hi q hq
    have hq' := preT_mono (T' := Fits V) (fun _ _ _ t => t.1) hq
    refine ⟨Fits_closed V r hr i hi q hq', fun _ e => ?_⟩
    refine Fits_closed V r hr p hp p ?_
    have st : ∀ k q, preT V (fun n i j => Fits V n i j ∧ (i ≤ vLn V → i = j → Fits V n p p)) r i k q → q = i → preT V (Fits V) r p k p := by
      intro k
      induction k with
      | zero => exact fun _ _ _ => rfl
      | succ k ih =>
        rintro q ⟨x, g1, g2⟩ e
        have y := preT_in (fun _ _ _ t => Fits_in t) hi (preT_mono (T' := Fits V) (fun _ _ _ t => t.1) g1)
        have y2 := sgT_in (sgT_mono (T' := Fits V) (fun _ _ _ t => t.1) g2) y.2
        have ex : x = i := by omega
        refine ⟨p, ih x g1 ex, ?_⟩
        rcases g2 with ⟨_, _, _, z⟩ | ⟨z1, z2⟩
        · omega
        · exact Or.inr ⟨z1, z2.2 y.2 (by omega)⟩
    exact st _ q hq e.symm
  exact (key n i i g).2 hi rfl
theorem sfb_nil {V : VV} {n i p : Nat} (hn : n < 5) (hi : i ≤ vLn V) (hp : p ≤ vLn V) : sfb V n i i = sfb V n p p := by
  refine sfb_eq ?_
  rw [sfb_iff]
  constructor
  · rintro (⟨z, _⟩ | ⟨_, z⟩)
    · omega
    · exact Or.inr ⟨hn, Fits_nil hi hp z⟩
  · rintro (⟨z, _⟩ | ⟨_, z⟩)
    · omega
    · exact Or.inr ⟨hn, Fits_nil hp hi z⟩
/-! the relation between the two states, and that each call keeps it -/
def rel (G : GG) (M : MM) : Prop := okG G ∧ okM M ∧ Veq (vX G) (vM M)
theorem rel_0 : rel (fun _ => 0, fun _ => 0, fun _ => 0, fun _ => 0, 0, 0) (fun _ => 0, fun _ => 0, fun _ => 0, fun _ => false, 0, 0) := ⟨⟨Nat.zero_le _, Nat.zero_le _, fun r h => absurd h (Nat.not_lt_zero _), fun r h => absurd h (Nat.not_lt_zero _)⟩, ⟨Nat.zero_le _, Nat.zero_le _, fun r h => absurd h (Nat.not_lt_zero _), fun r h => absurd h (Nat.not_lt_zero _)⟩, rfl, rfl, fun r h => absurd h (Nat.not_lt_zero _), fun r h => absurd h (Nat.not_lt_zero _)⟩
theorem rel_rule {G : GG} {M : MM} (h : rel G M) (a b : Int32) : rel (ruleG a b G) (ruleM a b M) := by
  obtain ⟨hG, hM, hV⟩ := id h
  have e1 : gCn G = mCn M := hV.1
  unfold ruleG ruleM
  by_cases c1 : isN a = true
  · by_cases c2 : isW b = true
    · rw [if_pos c1, if_pos c1, if_pos c2, if_pos c2, ← e1]
      by_cases c3 : gCn G = 12
      · rw [if_pos c3, if_pos c3]; exact h
      · rw [if_neg c3, if_neg c3]
        obtain ⟨n, hn, en⟩ := isN_of c1
        obtain ⟨R, hR, hR2, eR⟩ := isW_of c2
        rw [en, eR, nI_clamp (by omega), nI_clamp (by omega)]
        obtain ⟨g1, g2, g3, g4⟩ := hG
        obtain ⟨k1, k2, k3, k4⟩ := hM
        have hz := dsz_le R
        refine ⟨⟨?_, g2, fun r hr => ?_, g4⟩, ⟨?_, k2, fun r hr => ?_, k4⟩, ?_, hV.2.1, fun r hr => ?_, hV.2.2.2⟩
        · show gCn G + 1 ≤ 12
          omega
        · have hr : r < gCn G + 1 := hr
          show va_up (gLf G) (gCn G) n r < 5 ∧ va_up (gSz G) (gCn G) (dsz R) r ≤ 3 ∧ ∀ k, k < va_up (gSz G) (gCn G) (dsz R) r → rwF (gRt G) (3 * gCn G) R (dsz R) (3 * r + k) < 8
          by_cases e : r = gCn G
          · subst e
            rw [va_up_self, va_up_self]
            exact ⟨hn, hz, fun k hk => by rw [rwF_at hk]; exact dsg_lt⟩
          · rw [va_up_ne _ _ e, va_up_ne _ _ e]
            obtain ⟨x1, x2, x3⟩ := g3 r (by omega)
            exact ⟨x1, x2, fun k hk => by rw [rwF_out _ _ _ _ (by omega)]; exact x3 k hk⟩
        · show gCn G + 1 ≤ 12
          omega
        · have hr : r < gCn G + 1 := hr
          show va_up (mLf M) (gCn G) n r < 5 ∧ okR (va_up (mRt M) (gCn G) R r) = true
          by_cases e : r = gCn G
          · rw [e, va_up_self, va_up_self]; exact ⟨hn, hR⟩
          · rw [va_up_ne _ _ e, va_up_ne _ _ e]; exact k3 r (by omega)
        · rfl
        · have hr : r < gCn G + 1 := hr
          show va_up (gLf G) (gCn G) n r = va_up (mLf M) (gCn G) n r ∧ va_up (gSz G) (gCn G) (dsz R) r = dsz (va_up (mRt M) (gCn G) R r) ∧ ∀ k, k < va_up (gSz G) (gCn G) (dsz R) r → rwF (gRt G) (3 * gCn G) R (dsz R) (3 * r + k) = dsg (va_up (mRt M) (gCn G) R r) k
          by_cases e : r = gCn G
          · subst e
            rw [va_up_self, va_up_self, va_up_self, va_up_self]
            exact ⟨rfl, rfl, fun k hk => rwF_at hk⟩
          · rw [va_up_ne _ _ e, va_up_ne _ _ e, va_up_ne _ _ e, va_up_ne _ _ e]
            obtain ⟨x1, x2, x3⟩ := hV.2.2.1 r (show r < gCn G by omega)
            obtain ⟨_, y2, _⟩ := g3 r (by omega)
            exact ⟨x1, x2, fun k hk => by rw [rwF_out _ _ _ _ (by omega)]; exact x3 k hk⟩
    · rw [if_pos c1, if_pos c1, if_neg c2, if_neg c2]; exact h
  · rw [if_neg c1, if_neg c1]; exact h
theorem rel_drop {G : GG} {M : MM} (h : rel G M) (a : Int32) : rel (dropG a G) (dropM a M) := by
  obtain ⟨hG, hM, hV⟩ := id h
  have e1 : gCn G = mCn M := hV.1
  unfold dropG dropM
  rw [← e1]
  by_cases c1 : isR (gCn G) a = true
  · rw [if_pos c1, if_pos c1]
    obtain ⟨q, hq, eq⟩ := isR_of hG.1 c1
    obtain ⟨g1, g2, g3, g4⟩ := hG
    obtain ⟨k1, k2, k3, k4⟩ := hM
    rw [eq, nI_clamp (by omega)]
    have sh1 : ∀ (f : Nat → Nat) r, r < gCn G - 1 → shf f q (gCn G - 1) 1 r = f (if q ≤ r then r + 1 else r) := by
      intro f r hr
      unfold shf
      by_cases c : q ≤ r
      · rw [if_pos ⟨c, hr⟩, if_pos c]
      · rw [if_neg (fun z => c z.1), if_neg c]
    have sh3 : ∀ (f : Nat → Nat) r k, r < gCn G - 1 → k < 3 → shf f (3 * q) (3 * (gCn G - 1)) 3 (3 * r + k) = f (3 * (if q ≤ r then r + 1 else r) + k) := by
      intro f r k hr hk
      unfold shf
      by_cases c : q ≤ r
      · rw [if_pos ⟨by omega, by omega⟩, if_pos c]
        congr 1
        omega
      · rw [if_neg (by omega), if_neg c]
    have lt : ∀ r, r < gCn G - 1 → (if q ≤ r then r + 1 else r) < gCn G := by
      intro r hr
      split <;> omega
    refine ⟨⟨?_, g2, fun r hr => ?_, g4⟩, ⟨?_, k2, fun r hr => ?_, k4⟩, ?_, hV.2.1, fun r hr => ?_, hV.2.2.2⟩
    · show gCn G - 1 ≤ 12
      omega
    · have hr : r < gCn G - 1 := hr
      show shf (gLf G) q (gCn G - 1) 1 r < 5 ∧ shf (gSz G) q (gCn G - 1) 1 r ≤ 3 ∧ ∀ k, k < shf (gSz G) q (gCn G - 1) 1 r → shf (gRt G) (3 * q) (3 * (gCn G - 1)) 3 (3 * r + k) < 8
      rw [sh1 _ r hr, sh1 _ r hr]
      obtain ⟨x1, x2, x3⟩ := g3 _ (lt r hr)
      exact ⟨x1, x2, fun k hk => by rw [sh3 _ r k hr (by omega)]; exact x3 k hk⟩
    · show gCn G - 1 ≤ 12
      omega
    · have hr : r < gCn G - 1 := hr
      show shf (mLf M) q (gCn G - 1) 1 r < 5 ∧ okR (shf (mRt M) q (gCn G - 1) 1 r) = true
      rw [sh1 _ r hr, sh1 _ r hr]
      exact k3 _ (by rw [← e1]; exact lt r hr)
    · show gCn G - 1 = gCn G - 1
      rfl
    · have hr : r < gCn G - 1 := hr
      show shf (gLf G) q (gCn G - 1) 1 r = shf (mLf M) q (gCn G - 1) 1 r ∧ shf (gSz G) q (gCn G - 1) 1 r = dsz (shf (mRt M) q (gCn G - 1) 1 r) ∧ ∀ k, k < shf (gSz G) q (gCn G - 1) 1 r → shf (gRt G) (3 * q) (3 * (gCn G - 1)) 3 (3 * r + k) = dsg (shf (mRt M) q (gCn G - 1) 1 r) k
      rw [sh1 _ r hr, sh1 _ r hr, sh1 _ r hr, sh1 _ r hr]
      obtain ⟨x1, x2, x3⟩ := hV.2.2.1 _ (show (if q ≤ r then r + 1 else r) < gCn G from lt r hr)
      obtain ⟨_, y2, _⟩ := g3 _ (lt r hr)
      exact ⟨x1, x2, fun k hk => by rw [sh3 _ r k hr (by omega)]; exact x3 k hk⟩
  · rw [if_neg c1, if_neg c1]; exact h
theorem rel_clear {G : GG} {M : MM} (h : rel G M) : rel (sGCn G 0) (sMCn M 0) := by
  obtain ⟨⟨_, g2, _, g4⟩, ⟨_, k2, _, k4⟩, hV⟩ := h
  exact ⟨⟨Nat.zero_le _, g2, fun r hr => absurd hr (Nat.not_lt_zero _), g4⟩, ⟨Nat.zero_le _, k2, fun r hr => absurd hr (Nat.not_lt_zero _), k4⟩, rfl, hV.2.1, fun r hr => absurd hr (Nat.not_lt_zero _), hV.2.2.2⟩
/-- a new text on both sides -/
theorem rel_text {G : GG} {M : MM} (h : rel G M) {f f' : Nat → Nat} {n : Nat} (hn : n ≤ 8) (hf : ∀ j, j < n → f j = f' j ∧ 5 ≤ f j ∧ f j < 8) : rel (sGSi (sGTx G f) n) (sMLn (sMTx M f') n) := by
  obtain ⟨⟨g1, _, g3, _⟩, ⟨k1, _, k3, _⟩, hV⟩ := h
  exact ⟨⟨g1, hn, g3, fun j hj => (hf j hj).2⟩, ⟨k1, hn, k3, fun j hj => by show 5 ≤ f' j ∧ f' j < 8; rw [← (hf j hj).1]; exact (hf j hj).2⟩, hV.1, rfl, hV.2.2.1, fun j hj => (hf j hj).1⟩
theorem rel_tx {G : GG} {M : MM} (h : rel G M) : ∀ j, j < gSi G → gTx G j = mTx M j ∧ 5 ≤ gTx G j ∧ gTx G j < 8 := fun j hj => ⟨h.2.2.2.2.2 j hj, h.1.2.2.2 j hj⟩
theorem rel_push {G : GG} {M : MM} (h : rel G M) (a : Int32) : rel (pushG a G) (pushM a M) := by
  have e1 : gSi G = mLn M := h.2.2.2.1
  have g2 := h.1.2.1
  unfold pushG pushM
  rw [← e1]
  by_cases c1 : isL a = true
  · rw [if_pos c1, if_pos c1]
    by_cases c2 : gSi G = 8
    · rw [if_pos c2, if_pos c2]; exact h
    · rw [if_neg c2, if_neg c2]
      obtain ⟨n, hn1, hn2, en⟩ := isL_of c1
      rw [en, nI_clamp (by omega)]
      refine rel_text h (by omega) (fun j hj => ?_)
      by_cases e : j = gSi G
      · rw [e, va_up_self, va_up_self]; exact ⟨rfl, hn1, hn2⟩
      · rw [va_up_ne _ _ e, va_up_ne _ _ e]; exact rel_tx h j (by omega)
  · rw [if_neg c1, if_neg c1]; exact h
theorem rel_pop {G : GG} {M : MM} (h : rel G M) : rel (popG G) (popM M) ∧ popA (gTx G) (gSi G) = popA (mTx M) (mLn M) := by
  have e1 : gSi G = mLn M := h.2.2.2.1
  have g2 := h.1.2.1
  unfold popG popM popA
  rw [← e1]
  by_cases c : gSi G = 0
  · rw [if_pos c, if_pos c, if_pos c, if_pos c]; exact ⟨h, rfl⟩
  · rw [if_neg c, if_neg c, if_neg c, if_neg c]
    refine ⟨rel_text (f := gTx G) (f' := mTx M) h (by omega) (fun j hj => rel_tx h j (by omega)), ?_⟩
    rw [(rel_tx h (gSi G - 1) (by omega)).1]
theorem rel_write {G : GG} {M : MM} (h : rel G M) (a b : Int32) : rel (writeG a b G) (writeM a b M) := by
  unfold writeG writeM
  by_cases c1 : is8 a = true
  · rw [if_pos c1, if_pos c1]
    by_cases c2 : isR (3 ^ a.toNatClampNeg) b = true
    · rw [if_pos c2, if_pos c2]
      obtain ⟨n, hn, en⟩ := is8_of c1
      rw [en, nI_clamp (by omega)]
      exact rel_text h hn (fun j hj => wrF_in _ _ _ _ j hj)
    · rw [if_neg c2, if_neg c2]; exact h
  · rw [if_neg c1, if_neg c1]; exact h
theorem rel_next {G : GG} {M : MM} (h : rel G M) : rel (nextG G) (nextM M) := by
  have e1 : gSi G = mLn M := h.2.2.2.1
  have g2 := h.1.2.1
  unfold nextG nextM
  rw [← e1]
  by_cases c : gSi G = 8
  · rw [if_pos c, if_pos c]; exact h
  · rw [if_neg c, if_neg c]
    have z := rel_text (f := va_up (gTx G) (gSi G) 5) (f' := va_up (mTx M) (gSi G) 5) (n := gSi G) h g2 (fun j hj => by rw [va_up_ne _ _ (by omega), va_up_ne _ _ (by omega)]; exact rel_tx h j hj)
    have e2 : sMLn (sMTx M (va_up (mTx M) (gSi G) 5)) (gSi G) = sMTx M (va_up (mTx M) (gSi G) 5) := by rw [e1]; rfl
    rw [e2] at z
    exact z
theorem rel_T {G : GG} {M : MM} (h : rel G M) (T : Nat → Bool) : rel G (sMT M T) := h
end
section
/-! THE CLAIM OUT OF ONE WALK OF THE LAW'S BODY. Your part is whole_start (and what it stands on); all else here is the same for every law, but numbers. -/
def R_law : String := "GllRecogniserLaw"
def lw_P (b : Addr) (xs : List Int32) (args : Array Value) (s : State) : Prop := args = #[.ref b] ∧ s.IntsAt b xs ∧ xs.length ≤ 256 ∧ (Jvm.Cond.and given_1 narrow_1).before args s = true
def lw_Q (_ : Array Value) (s : State) (o : Outcome) (t : State) : Prop := o = .returned (some (.int 1)) ∧ Framed s o t [] 600000 7290000
def lw_Z (below : List Frame) (a : Array Value) (s : State) : State → Prop := fun t => ∃ o, t.status = .running ∧ Ended t below o ∧ lw_Q a s o t
/-- the law's own end, with 1 on the stack, nothing written that was there before, its room as the claim has it -/
theorem lw_ret {p : Program} {l : Launch} {e : Env} {s : State} {m : MethodId} {below : List Frame} {meth : Method} {c : Code} {b : Nat} (hx : p.tables.exec = Jvm.exec) (hb : c.code = code) (hr : meth.sig.returnType = ret) (hlocks : meth.locks = false) {pc : Nat} {H : Heap} {ls : Array Slot} (hdg : decode code pc = .ok (.ireturn, 1)) : W p l e room_1 s m #[Value.ref b] below meth c H [] 600000 7290000 (lw_Z below #[Value.ref b] s) (F0 m pc ls [.int 1]) := by
  intro T hT X
  obtain ⟨fs, hret, hrun, hended, hW, hframe⟩ := X.leave (v := some (.int 1)) (hlocks := hlocks) (fun h => by rw [hr] at h; cases h)
  have hmeth' : T.vm.method? m = some meth := X.method'
  refine ⟨T.setFrames fs, ?_, .returned (some (.int 1)), hrun, hended, rfl, ⟨_, rfl⟩, hW, hframe⟩
  jvm_step X.here [X.here.top, hx, hb, hdg, hmeth', hr, ret, narrow_b1]
  (try refine ⟨rfl, ?_⟩); (try refine ⟨rfl, ?_⟩)
  first | (intro acts; rw [hret _ acts rfl rfl rfl]) | rw [hret _ _ rfl rfl rfl]
  exact Steps.refl _
/-- what holds at the law's entry: the machine, the code, the tables' words (any of lw_tbl by 'hts w (by decide +kernel)'), the script of L ints xs at the cell b, what the Statement gives of the start (any of its parts by flat_of_before) -/
def lw_At (p : Program) (s : State) (m : MethodId) (meth : Method) (c : Code) (b L : Nat) (xs : Nat → Int32) : Prop :=
  p.tables.exec = Jvm.exec ∧ c.code = code ∧ meth.sig.returnType = ret ∧ c.maxLocals = 4 ∧ s.vm.findClass R_law = some m.cls ∧ (∀ w ∈ lw_tbl, w.before #[Value.ref b] s = true) ∧ va_X b L xs s s.heap ∧ b < s.heap.size ∧ meth.locks = false ∧ (Jvm.Cond.and given_1 narrow_1).before #[Value.ref b] s = true
/-! the law's world: both objects beside each other -/
def adX (h : Nat → Nat) : List Nat := [h 0, h 1, h 2, h 3, h 4, h 5, h 6, h 7, h 8, h 9]
def adM (h : Nat → Nat) : List Nat := [h 0, h 1, h 2, h 3, h 4]
theorem gp_fst {ws : va_W} {q : Nat} (h : q ∈ ws.map (·.1)) : ∃ (k : Nat) (x : Nat × va_E), ws[k]? = some x ∧ x.1 = q := by
  obtain ⟨x, hx, e⟩ := List.mem_map.mp h
  obtain ⟨k, hk⟩ := List.mem_iff_getElem?.mp hx
  exact ⟨k, x, hk, e⟩
theorem gp_fst2 {ws : va_W} {k : Nat} {x : Nat × va_E} (h : ws[k]? = some x) : x.1 ∈ ws.map (·.1) := List.mem_map.mpr ⟨x, List.mem_of_getElem? h, rfl⟩
/-- what holds of the two objects' places all through the law -/
def LJ (s : State) (D : va_G) (h g : Nat → Nat) (ca cg : Nat → ClassId) : Prop := va_K D vwCl (tX ca) s ∧ va_K D vwCl (tM cg) s ∧ (∀ q, q ∈ adX h → s.heap.size ≤ q) ∧ (∀ q, q ∈ adM g → s.heap.size ≤ q) ∧ (∀ q, q ∈ adX h → q ∉ adM g) ∧ (∀ G E, va_D (fun q => q ∈ adX h) (wX h ca G E)) ∧ ∀ M, va_D (fun q => q ∈ adM g) (wM g cg M)
theorem LJ_of {s : State} {D : va_G} {h g : Nat → Nat} {ca cg : Nat → ClassId} {G : GG} {E : EE} {M : MM} (hK1 : va_K D vwCl (tX ca) s) (hK2 : va_K D vwCl (tM cg) s) (hD : va_D (fun q : Nat => s.heap.size ≤ q) (wX h ca G E ++ wM g cg M)) : LJ s D h g ca cg := by
  have m1 : ∀ q, q ∈ adX h → ∃ (k : Nat) (x : Nat × va_E), k < 10 ∧ (wX h ca G E)[k]? = some x ∧ (wX h ca G E ++ wM g cg M)[k]? = some x ∧ x.1 = q := by
    intro q hq
    obtain ⟨k, x, hk, e⟩ := gp_fst (ws := wX h ca G E) hq
    have hl : k < (wX h ca G E).length := (List.getElem?_eq_some_iff.mp hk).1
    exact ⟨k, x, hl, hk, by rw [List.getElem?_append_left hl]; exact hk, e⟩
  have m2 : ∀ q, q ∈ adM g → ∃ (k : Nat) (x : Nat × va_E), 10 ≤ k ∧ (wM g cg M)[k - 10]? = some x ∧ (wX h ca G E ++ wM g cg M)[k]? = some x ∧ x.1 = q := by
    intro q hq
    obtain ⟨k, x, hk, e⟩ := gp_fst (ws := wM g cg M) hq
    refine ⟨k + 10, x, by omega, by rw [show k + 10 - 10 = k by omega]; exact hk, ?_, e⟩
    rw [List.getElem?_append_right (by show 10 ≤ k + 10; omega)]
    show (wM g cg M)[k + 10 - 10]? = some x
    rw [show k + 10 - 10 = k by omega]
    exact hk
  refine ⟨hK1, hK2, fun q hq => ?_, fun q hq => ?_, fun q hq hq2 => ?_, fun G' E' => gp_Dmap (ws := wX h ca G E) (ws' := wX h ca G' E') rfl ⟨fun i j x y hi hj e => ?_, fun k x hk => gp_fst2 hk⟩, fun M' => gp_Dmap (ws := wM g cg M) (ws' := wM g cg M') rfl ⟨fun i j x y hi hj e => ?_, fun k x hk => gp_fst2 hk⟩⟩
  · obtain ⟨k, x, _, _, h2, e⟩ := m1 q hq
    rw [← e]; exact hD.2 k x h2
  · obtain ⟨k, x, _, _, h2, e⟩ := m2 q hq
    rw [← e]; exact hD.2 k x h2
  · obtain ⟨k, x, a1, _, h2, e⟩ := m1 q hq
    obtain ⟨k', x', a2, _, h3, e'⟩ := m2 q hq2
    have z := hD.1 k k' x x' h2 h3 (by rw [e, e'])
    omega
  · have l1 : i < (wX h ca G E).length := (List.getElem?_eq_some_iff.mp hi).1
    have l2 : j < (wX h ca G E).length := (List.getElem?_eq_some_iff.mp hj).1
    exact hD.1 i j x y (by rw [List.getElem?_append_left l1]; exact hi) (by rw [List.getElem?_append_left l2]; exact hj) e
  · have z := hD.1 (i + 10) (j + 10) x y (by rw [List.getElem?_append_right (by show 10 ≤ i + 10; omega)]; show (wM g cg M)[i + 10 - 10]? = some x; rw [show i + 10 - 10 = i by omega]; exact hi) (by rw [List.getElem?_append_right (by show 10 ≤ j + 10; omega)]; show (wM g cg M)[j + 10 - 10]? = some y; rw [show j + 10 - 10 = j by omega]; exact hj) e
    omega
section WL
variable {p : Program} {l : Launch} {e : Env} {R : Room} {s : State} {m : MethodId} {args : Array Value} {below : List Frame} {meth : Method} {c : Code} {H : Heap} {locs : List Loc} {cells slots : Nat} {Q : State → Prop}
variable {cc : ByteArray} {pc nL : Nat} {ls : Array Slot} {rest : List Value} {D : va_G} {h g : Nat → Nat} {ca cg : Nat → ClassId} {own : String}
variable {G : GG} {E : EE} {M : MM}
theorem gl_callX (S : CallFix p m c cc nL s args lw_all own) (J : LJ s D h g ca cg) {y : MethodName} {bytes : ByteArray} {maxL fr lo idx n : Nat} {As st : List Value} {ty : FieldType} {post : Int32 → GG × EE → Prop} (hM : Met l y (ws_ y bytes maxL (some ty)) ({ frames := fr, cells := 0, slots := 0, locals := lo }) (PX D h ca (fun q => q ∈ adX h) G E As) (va_Qi post (BX D h ca) (fun q => q ∈ adX h)) 0 0 ((fun q => q ∈ adX h))) (hw : GoodIn lw_all (wsV own idx RX0 y (ws_ y bytes maxL (some ty)))) (hd : y.cls = RX0 ∧ y.cls ≠ "java/lang/invoke/MethodHandle" ∧ y.cls ≠ "java/lang/invoke/VarHandle" ∧ (parseMethodDescriptor y.desc).map (fun d => d.parameters.length) = some n) (hR : fr + 1 ≤ R.frames ∧ 8 + (maxL + 11) + lo ≤ R.locals) (hf : cells + 0 ≤ R.cells ∧ slots + 0 ≤ R.slots) (hP : va_P D vwCl (wX h ca G E) H) (hO : va_P D vwCl (wM g cg M) H) (hS : va_S (fun q : Nat => s.heap.size ≤ q) s.heap H locs) (hn : As.length = n) (hz : ls.size = nL) (hst : st = As.reverse ++ .ref (h 0) :: rest) (hrm : (rest.map fun v => v.category).sum ≤ 8) (hdg : decode cc pc = .ok (.invokevirtual idx, 3)) (kk : ∀ (r : Int32) (u : GG × EE) (H1 : Heap) (locs1 : List Loc), post r u → va_P D vwCl (wX h ca u.1 u.2) H1 → va_P D vwCl (wM g cg M) H1 → va_S (fun q : Nat => s.heap.size ≤ q) s.heap H1 locs1 → W p l e R s m args below meth c H1 locs1 cells slots Q (F0 m (pc + 3) ls (.int r :: rest))) : W p l e R s m args below meth c H locs cells slots Q (F0 m pc ls st) := by
  refine va_calli (va_runV S hM (cwV n S.2.2.2.2 hw rfl rfl rfl hd hR) ⟨fun a U g mk q => by obtain ⟨q0, qP, qK, qD⟩ := q; exact ⟨q0, qP, va_K.moved (u := U) (U := U.calling g mk a) (Vm.Alike.refl U.vm) qK, qD⟩, va_recv J.1 hP (ci := 0) (q0 := 0) rfl rfl, fun U hU hW => ⟨rfl, by rw [hU]; exact hP, va_K.moved hW.alike J.1, J.2.2.2.2.2.1 G E⟩⟩ rfl hn hz hst (lv_room hrm) hdg hf) hS (fun q _ hq => J.2.2.1 q hq) (fun q hq => J.2.2.1 q hq) (fun r u t H1 locs1 ht hvm hpost hB hz1 hk1 hS1 => ?_)
  exact kk r u H1 locs1 hpost (by rw [← ht]; exact hB) (hO.kept (fun k x hk => hk1 x.1 (hO k x hk).lt (fun z => J.2.2.2.2.1 _ z (gp_fst2 hk)))) hS1
theorem gl_callSX (S : CallFix p m c cc nL s args lw_all own) (J : LJ s D h g ca cg) {y : MethodName} {bytes : ByteArray} {maxL fr lo idx n : Nat} {As st : List Value} {ty : FieldType} {post : Int32 → Prop} (hM : Met l y (ws_ y bytes maxL (some ty)) ({ frames := fr, cells := 0, slots := 0, locals := lo }) (PX D h ca (fun q => q ∈ adX h) G E As) (vp_Si post) 0 0 (fun _ => False)) (hw : GoodIn lw_all (wsV own idx RX0 y (ws_ y bytes maxL (some ty)))) (hd : y.cls = RX0 ∧ y.cls ≠ "java/lang/invoke/MethodHandle" ∧ y.cls ≠ "java/lang/invoke/VarHandle" ∧ (parseMethodDescriptor y.desc).map (fun d => d.parameters.length) = some n) (hR : fr + 1 ≤ R.frames ∧ 8 + (maxL + 11) + lo ≤ R.locals) (hf : cells + 0 ≤ R.cells ∧ slots + 0 ≤ R.slots) (hP : va_P D vwCl (wX h ca G E) H) (hO : va_P D vwCl (wM g cg M) H) (hS : va_S (fun q : Nat => s.heap.size ≤ q) s.heap H locs) (hn : As.length = n) (hz : ls.size = nL) (hst : st = As.reverse ++ .ref (h 0) :: rest) (hrm : (rest.map fun v => v.category).sum ≤ 8) (hdg : decode cc pc = .ok (.invokevirtual idx, 3)) (kk : ∀ r : Int32, post r → W p l e R s m args below meth c H locs cells slots Q (F0 m (pc + 3) ls (.int r :: rest))) : W p l e R s m args below meth c H locs cells slots Q (F0 m pc ls st) := by
  refine vp_callSi (W.runV S hM (cwV n S.2.2.2.2 hw rfl rfl rfl hd hR) ⟨fun a U g mk q => by obtain ⟨q0, qP, qK, qD⟩ := q; exact ⟨q0, qP, va_K.moved (u := U) (U := U.calling g mk a) (Vm.Alike.refl U.vm) qK, qD⟩, va_recv J.1 hP (ci := 0) (q0 := 0) rfl rfl, fun U hU hW => ⟨rfl, by rw [hU]; exact hP, va_K.moved hW.alike J.1, J.2.2.2.2.2.1 G E⟩⟩ rfl hn hz hst (lv_room hrm) hdg hf) (fun r hpost => ?_)
  exact kk r hpost
theorem gl_callM (S : CallFix p m c cc nL s args lw_all own) (J : LJ s D h g ca cg) {y : MethodName} {bytes : ByteArray} {maxL fr lo idx n : Nat} {As st : List Value} {ty : FieldType} {post : Int32 → MM → Prop} (hM : Met l y (ws_ y bytes maxL (some ty)) ({ frames := fr, cells := 0, slots := 0, locals := lo }) (PM D g cg (fun q => q ∈ adM g) M As) (va_Qi post (BM D g cg) (fun q => q ∈ adM g)) 0 0 ((fun q => q ∈ adM g))) (hw : GoodIn lw_all (wsV own idx RX1 y (ws_ y bytes maxL (some ty)))) (hd : y.cls = RX1 ∧ y.cls ≠ "java/lang/invoke/MethodHandle" ∧ y.cls ≠ "java/lang/invoke/VarHandle" ∧ (parseMethodDescriptor y.desc).map (fun d => d.parameters.length) = some n) (hR : fr + 1 ≤ R.frames ∧ 8 + (maxL + 11) + lo ≤ R.locals) (hf : cells + 0 ≤ R.cells ∧ slots + 0 ≤ R.slots) (hP : va_P D vwCl (wM g cg M) H) (hO : va_P D vwCl (wX h ca G E) H) (hS : va_S (fun q : Nat => s.heap.size ≤ q) s.heap H locs) (hn : As.length = n) (hz : ls.size = nL) (hst : st = As.reverse ++ .ref (g 0) :: rest) (hrm : (rest.map fun v => v.category).sum ≤ 8) (hdg : decode cc pc = .ok (.invokevirtual idx, 3)) (kk : ∀ (r : Int32) (u : MM) (H1 : Heap) (locs1 : List Loc), post r u → va_P D vwCl (wM g cg u) H1 → va_P D vwCl (wX h ca G E) H1 → va_S (fun q : Nat => s.heap.size ≤ q) s.heap H1 locs1 → W p l e R s m args below meth c H1 locs1 cells slots Q (F0 m (pc + 3) ls (.int r :: rest))) : W p l e R s m args below meth c H locs cells slots Q (F0 m pc ls st) := by
  refine va_calli (va_runV S hM (cwV n S.2.2.2.2 hw rfl rfl rfl hd hR) ⟨fun a U g mk q => by obtain ⟨q0, qP, qK, qD⟩ := q; exact ⟨q0, qP, va_K.moved (u := U) (U := U.calling g mk a) (Vm.Alike.refl U.vm) qK, qD⟩, va_recv J.2.1 hP (ci := 1) (q0 := 0) rfl rfl, fun U hU hW => ⟨rfl, by rw [hU]; exact hP, va_K.moved hW.alike J.2.1, J.2.2.2.2.2.2 M⟩⟩ rfl hn hz hst (lv_room hrm) hdg hf) hS (fun q _ hq => J.2.2.2.1 q hq) (fun q hq => J.2.2.2.1 q hq) (fun r u t H1 locs1 ht hvm hpost hB hz1 hk1 hS1 => ?_)
  exact kk r u H1 locs1 hpost (by rw [← ht]; exact hB) (hO.kept (fun k x hk => hk1 x.1 (hO k x hk).lt (fun z => J.2.2.2.2.1 _ (gp_fst2 hk) z))) hS1
theorem gl_callSM (S : CallFix p m c cc nL s args lw_all own) (J : LJ s D h g ca cg) {y : MethodName} {bytes : ByteArray} {maxL fr lo idx n : Nat} {As st : List Value} {ty : FieldType} {post : Int32 → Prop} (hM : Met l y (ws_ y bytes maxL (some ty)) ({ frames := fr, cells := 0, slots := 0, locals := lo }) (PM D g cg (fun q => q ∈ adM g) M As) (vp_Si post) 0 0 (fun _ => False)) (hw : GoodIn lw_all (wsV own idx RX1 y (ws_ y bytes maxL (some ty)))) (hd : y.cls = RX1 ∧ y.cls ≠ "java/lang/invoke/MethodHandle" ∧ y.cls ≠ "java/lang/invoke/VarHandle" ∧ (parseMethodDescriptor y.desc).map (fun d => d.parameters.length) = some n) (hR : fr + 1 ≤ R.frames ∧ 8 + (maxL + 11) + lo ≤ R.locals) (hf : cells + 0 ≤ R.cells ∧ slots + 0 ≤ R.slots) (hP : va_P D vwCl (wM g cg M) H) (hO : va_P D vwCl (wX h ca G E) H) (hS : va_S (fun q : Nat => s.heap.size ≤ q) s.heap H locs) (hn : As.length = n) (hz : ls.size = nL) (hst : st = As.reverse ++ .ref (g 0) :: rest) (hrm : (rest.map fun v => v.category).sum ≤ 8) (hdg : decode cc pc = .ok (.invokevirtual idx, 3)) (kk : ∀ r : Int32, post r → W p l e R s m args below meth c H locs cells slots Q (F0 m (pc + 3) ls (.int r :: rest))) : W p l e R s m args below meth c H locs cells slots Q (F0 m pc ls st) := by
  refine vp_callSi (W.runV S hM (cwV n S.2.2.2.2 hw rfl rfl rfl hd hR) ⟨fun a U g mk q => by obtain ⟨q0, qP, qK, qD⟩ := q; exact ⟨q0, qP, va_K.moved (u := U) (U := U.calling g mk a) (Vm.Alike.refl U.vm) qK, qD⟩, va_recv J.2.1 hP (ci := 1) (q0 := 0) rfl rfl, fun U hU hW => ⟨rfl, by rw [hU]; exact hP, va_K.moved hW.alike J.2.1, J.2.2.2.2.2.2 M⟩⟩ rfl hn hz hst (lv_room hrm) hdg hf) (fun r hpost => ?_)
  exact kk r hpost
theorem gl_sld (hx : p.tables.exec = Jvm.exec) (hb : c.code = cc) {b L i : Nat} {xs : Nat → Int32} (hX : va_X b L xs s s.heap) (hbl : b < s.heap.size) (hS : va_S (fun q : Nat => s.heap.size ≤ q) s.heap H locs) (hi : i < L) (hL : L ≤ 256) (hdg : decode cc pc = .ok (.iaload, 1)) (kk : W p l e R s m args below meth c H locs cells slots Q (F0 m (pc + 1) ls (.int (xs i) :: rest))) : W p l e R s m args below meth c H locs cells slots Q (F0 m pc ls (.int (nI i) :: .ref b :: rest)) := va_sld hx hb hX hbl (Nat.not_le.mpr hbl) hS (vp_in_nI hi (by omega)) hdg (by rw [nI_clamp (by omega)]; exact kk)
end WL
theorem law_gt {i L : Nat} (hi : i < 2 ^ 30) (hL : L < 2 ^ 30) : nI L - nI 4 < nI i ↔ L < i + 4 := by rw [Int32.lt_iff_toInt_lt, pk_sub_toInt hL (by omega), nI_toInt (by omega)]; omega
theorem nI_i4 (i : Nat) : nI i + Int32.ofInt 4 = nI (i + 4) := by rw [← nI_add]; rfl
end
section
/-! the law: its loop and its start -/
theorem law_emp {G : GG} {M : MM} (hR : rel G M) (a : Int32) : (if isN a = true then nI (sfb (vX G) a.toNatClampNeg (gSi G) (gSi G)).toNat else -1) = if isN a = true then nI (sfb (vM M) a.toNatClampNeg 0 0).toNat else -1 := by
  by_cases c : isN a = true
  · obtain ⟨n, hn, en⟩ := isN_of c
    rw [if_pos c, if_pos c, en, nI_clamp (by omega), sfb_nil (V := vX G) (i := gSi G) (p := 0) hn (Nat.le_refl _) (Nat.zero_le _), sfb_fun hR.2.2]
  · rw [if_neg c, if_neg c]
set_option maxHeartbeats 4000000 in
set_option maxRecDepth 100000 in
theorem law_rule {p : Program} {l : Launch} {e : Env} {s : State} {m : MethodId} {below : List Frame} {meth : Method} {c : Code} {b L : Nat} {xs : Nat → Int32} {D : va_G} {h g : Nat → Nat} {ca cg : Nat → ClassId} (hL : L ≤ 256) (C0 : lw_At p s m meth c b L xs) (J : LJ s D h g ca cg) {i : Nat} (hi : i + 4 ≤ L) {G : GG} {E : EE} {M : MM} (hR : rel G M) {H : Heap} {locs : List Loc} {ls : Array Slot} (hP : va_P D vwCl (wX h ca G E) H) (hQ : va_P D vwCl (wM g cg M) H) (hS : va_S (fun q : Nat => s.heap.size ≤ q) s.heap H locs) (hl : lv_has ls 4 [(0, .ref b), (1, .ref (h 0)), (2, .ref (g 0)), (3, .int (nI i))]) (hgo : ∀ (G : GG) (E : EE) (M : MM) (H : Heap) (locs : List Loc), rel G M → va_P D vwCl (wX h ca G E) H → va_P D vwCl (wM g cg M) H → va_S (fun q : Nat => s.heap.size ≤ q) s.heap H locs → W p l e room_1 s m #[Value.ref b] below meth c H locs 15 4890 (lw_Z below #[Value.ref b] s) (F0 m 537 ls [])) : W p l e room_1 s m #[Value.ref b] below meth c H locs 15 4890 (lw_Z below #[Value.ref b] s) (F0 m 116 ls []) := by
  obtain ⟨hx, hb, hr, hml, hown, hts, hX, hbl, hlocks, hgv⟩ := C0
  have hts : ∀ w ∈ lw_all, w.before #[Value.ref b] s = true := fun w hw => hts w (lw_all_tbl hw)
  have S : CallFix p m c code 4 s #[Value.ref b] lw_all R_law := ⟨hx, hb, hml, hown, hts⟩
  obtain ⟨hG, hM, hV⟩ := id hR
  have hcn : gCn G = mCn M := hV.1
  have hsi : gSi G = mLn M := hV.2.1
  refine lv_aload_n hx hb dL_law_116 rfl (lv_at hl 1 rfl) ?_
  refine lv_aload_n hx hb dL_law_117 rfl (lv_at hl 0 rfl) ?_
  refine lv_iload_n hx hb dL_law_118 rfl (lv_at hl 3 rfl) ?_
  refine nr_iconst (v := 1) hx hb dL_law_119 (by decide +kernel) ?_
  refine nr_iadd hx hb dL_law_120 ?_
  refine gl_sld hx hb hX hbl hS (by omega) hL dL_law_121 ?_
  refine lv_aload_n hx hb dL_law_122 rfl (lv_at hl 0 rfl) ?_
  refine lv_iload_n hx hb dL_law_123 rfl (lv_at hl 3 rfl) ?_
  refine nr_iconst (v := 2) hx hb dL_law_124 (by decide +kernel) ?_
  refine nr_iadd hx hb dL_law_125 ?_
  refine gl_sld hx hb hX hbl hS (by omega) hL dL_law_126 ?_
  refine gl_callX S J (rest := []) (As := [.int (xs (i + 1)), .int (xs (i + 2))]) (n := 2) (mX_rule l D h ca (fun q => q ∈ adX h) G E (xs (i + 1)) (xs (i + 2)) hG) (lw_V q72 q73 q74 q23 q75) (by decide +kernel) ⟨Nat.le_of_ble_eq_true rfl, Nat.le_of_ble_eq_true rfl⟩ ⟨Nat.le_of_ble_eq_true rfl, Nat.le_of_ble_eq_true rfl⟩ hP hQ hS rfl hl.1 rfl (Nat.le_of_ble_eq_true rfl) dL_law_127 (fun rx ux H locs hux hP hQ hS => ?_)
  obtain ⟨e1, e3⟩ := hux
  subst e3
  have hP : va_P D vwCl (wX h ca (ruleG (xs (i + 1)) (xs (i + 2)) G) E) H := hP
  refine lv_aload_n hx hb dL_law_130 rfl (lv_at hl 2 rfl) ?_
  refine lv_aload_n hx hb dL_law_131 rfl (lv_at hl 0 rfl) ?_
  refine lv_iload_n hx hb dL_law_132 rfl (lv_at hl 3 rfl) ?_
  refine nr_iconst (v := 1) hx hb dL_law_133 (by decide +kernel) ?_
  refine nr_iadd hx hb dL_law_134 ?_
  refine gl_sld hx hb hX hbl hS (by omega) hL dL_law_135 ?_
  refine lv_aload_n hx hb dL_law_136 rfl (lv_at hl 0 rfl) ?_
  refine lv_iload_n hx hb dL_law_137 rfl (lv_at hl 3 rfl) ?_
  refine nr_iconst (v := 2) hx hb dL_law_138 (by decide +kernel) ?_
  refine nr_iadd hx hb dL_law_139 ?_
  refine gl_sld hx hb hX hbl hS (by omega) hL dL_law_140 ?_
  refine gl_callM S J (rest := [.int rx]) (As := [.int (xs (i + 1)), .int (xs (i + 2))]) (n := 2) (mM_rule l D g cg (fun q => q ∈ adM g) M (xs (i + 1)) (xs (i + 2)) hM) (lw_V q222 q223 q224 q24 q225) (by decide +kernel) ⟨Nat.le_of_ble_eq_true rfl, Nat.le_of_ble_eq_true rfl⟩ ⟨Nat.le_of_ble_eq_true rfl, Nat.le_of_ble_eq_true rfl⟩ hQ hP hS rfl hl.1 rfl (Nat.le_of_ble_eq_true rfl) dL_law_141 (fun rm um H locs hum hQ hP hS => ?_)
  obtain ⟨e2, e4⟩ := hum
  subst e4
  refine lv_icmp_eq (tgt := 537) hx hb dL_law_144 (by decide) (fun c1 => ?_) (fun c1 => ?_)
  · exact hgo _ _ _ _ _ (rel_rule hR (xs (i + 1)) (xs (i + 2))) hP hQ hS
  · exact absurd (by rw [e1, e2, hcn]) c1
set_option maxHeartbeats 4000000 in
set_option maxRecDepth 100000 in
theorem law_drop {p : Program} {l : Launch} {e : Env} {s : State} {m : MethodId} {below : List Frame} {meth : Method} {c : Code} {b L : Nat} {xs : Nat → Int32} {D : va_G} {h g : Nat → Nat} {ca cg : Nat → ClassId} (hL : L ≤ 256) (C0 : lw_At p s m meth c b L xs) (J : LJ s D h g ca cg) {i : Nat} (hi : i + 4 ≤ L) {G : GG} {E : EE} {M : MM} (hR : rel G M) {H : Heap} {locs : List Loc} {ls : Array Slot} (hP : va_P D vwCl (wX h ca G E) H) (hQ : va_P D vwCl (wM g cg M) H) (hS : va_S (fun q : Nat => s.heap.size ≤ q) s.heap H locs) (hl : lv_has ls 4 [(0, .ref b), (1, .ref (h 0)), (2, .ref (g 0)), (3, .int (nI i))]) (hgo : ∀ (G : GG) (E : EE) (M : MM) (H : Heap) (locs : List Loc), rel G M → va_P D vwCl (wX h ca G E) H → va_P D vwCl (wM g cg M) H → va_S (fun q : Nat => s.heap.size ≤ q) s.heap H locs → W p l e room_1 s m #[Value.ref b] below meth c H locs 15 4890 (lw_Z below #[Value.ref b] s) (F0 m 537 ls [])) : W p l e room_1 s m #[Value.ref b] below meth c H locs 15 4890 (lw_Z below #[Value.ref b] s) (F0 m 149 ls []) := by
  obtain ⟨hx, hb, hr, hml, hown, hts, hX, hbl, hlocks, hgv⟩ := C0
  have hts : ∀ w ∈ lw_all, w.before #[Value.ref b] s = true := fun w hw => hts w (lw_all_tbl hw)
  have S : CallFix p m c code 4 s #[Value.ref b] lw_all R_law := ⟨hx, hb, hml, hown, hts⟩
  obtain ⟨hG, hM, hV⟩ := id hR
  have hcn : gCn G = mCn M := hV.1
  have hsi : gSi G = mLn M := hV.2.1
  refine lv_aload_n hx hb dL_law_149 rfl (lv_at hl 1 rfl) ?_
  refine lv_aload_n hx hb dL_law_150 rfl (lv_at hl 0 rfl) ?_
  refine lv_iload_n hx hb dL_law_151 rfl (lv_at hl 3 rfl) ?_
  refine nr_iconst (v := 1) hx hb dL_law_152 (by decide +kernel) ?_
  refine nr_iadd hx hb dL_law_153 ?_
  refine gl_sld hx hb hX hbl hS (by omega) hL dL_law_154 ?_
  refine gl_callX S J (rest := []) (As := [.int (xs (i + 1))]) (n := 1) (mX_drop l D h ca (fun q => q ∈ adX h) G E (xs (i + 1)) hG) (lw_V q82 q83 q84 q23 q85) (by decide +kernel) ⟨Nat.le_of_ble_eq_true rfl, Nat.le_of_ble_eq_true rfl⟩ ⟨Nat.le_of_ble_eq_true rfl, Nat.le_of_ble_eq_true rfl⟩ hP hQ hS rfl hl.1 rfl (Nat.le_of_ble_eq_true rfl) dL_law_155 (fun rx ux H locs hux hP hQ hS => ?_)
  obtain ⟨e1, e3⟩ := hux
  subst e3
  have hP : va_P D vwCl (wX h ca (dropG (xs (i + 1)) G) E) H := hP
  refine lv_aload_n hx hb dL_law_158 rfl (lv_at hl 2 rfl) ?_
  refine lv_aload_n hx hb dL_law_159 rfl (lv_at hl 0 rfl) ?_
  refine lv_iload_n hx hb dL_law_160 rfl (lv_at hl 3 rfl) ?_
  refine nr_iconst (v := 1) hx hb dL_law_161 (by decide +kernel) ?_
  refine nr_iadd hx hb dL_law_162 ?_
  refine gl_sld hx hb hX hbl hS (by omega) hL dL_law_163 ?_
  refine gl_callM S J (rest := [.int rx]) (As := [.int (xs (i + 1))]) (n := 1) (mM_drop l D g cg (fun q => q ∈ adM g) M (xs (i + 1)) hM) (lw_V q230 q231 q232 q24 q233) (by decide +kernel) ⟨Nat.le_of_ble_eq_true rfl, Nat.le_of_ble_eq_true rfl⟩ ⟨Nat.le_of_ble_eq_true rfl, Nat.le_of_ble_eq_true rfl⟩ hQ hP hS rfl hl.1 rfl (Nat.le_of_ble_eq_true rfl) dL_law_164 (fun rm um H locs hum hQ hP hS => ?_)
  obtain ⟨e2, e4⟩ := hum
  subst e4
  refine lv_icmp_eq (tgt := 537) hx hb dL_law_167 (by decide) (fun c1 => ?_) (fun c1 => ?_)
  · exact hgo _ _ _ _ _ (rel_drop hR (xs (i + 1))) hP hQ hS
  · exact absurd (by rw [e1, e2, hcn]) c1
set_option maxHeartbeats 4000000 in
set_option maxRecDepth 100000 in
theorem law_clear {p : Program} {l : Launch} {e : Env} {s : State} {m : MethodId} {below : List Frame} {meth : Method} {c : Code} {b L : Nat} {xs : Nat → Int32} {D : va_G} {h g : Nat → Nat} {ca cg : Nat → ClassId} (hL : L ≤ 256) (C0 : lw_At p s m meth c b L xs) (J : LJ s D h g ca cg) {i : Nat} (hi : i + 4 ≤ L) {G : GG} {E : EE} {M : MM} (hR : rel G M) {H : Heap} {locs : List Loc} {ls : Array Slot} (hP : va_P D vwCl (wX h ca G E) H) (hQ : va_P D vwCl (wM g cg M) H) (hS : va_S (fun q : Nat => s.heap.size ≤ q) s.heap H locs) (hl : lv_has ls 4 [(0, .ref b), (1, .ref (h 0)), (2, .ref (g 0)), (3, .int (nI i))]) (hgo : ∀ (G : GG) (E : EE) (M : MM) (H : Heap) (locs : List Loc), rel G M → va_P D vwCl (wX h ca G E) H → va_P D vwCl (wM g cg M) H → va_S (fun q : Nat => s.heap.size ≤ q) s.heap H locs → W p l e room_1 s m #[Value.ref b] below meth c H locs 15 4890 (lw_Z below #[Value.ref b] s) (F0 m 537 ls [])) : W p l e room_1 s m #[Value.ref b] below meth c H locs 15 4890 (lw_Z below #[Value.ref b] s) (F0 m 172 ls []) := by
  obtain ⟨hx, hb, hr, hml, hown, hts, hX, hbl, hlocks, hgv⟩ := C0
  have hts : ∀ w ∈ lw_all, w.before #[Value.ref b] s = true := fun w hw => hts w (lw_all_tbl hw)
  have S : CallFix p m c code 4 s #[Value.ref b] lw_all R_law := ⟨hx, hb, hml, hown, hts⟩
  obtain ⟨hG, hM, hV⟩ := id hR
  have hcn : gCn G = mCn M := hV.1
  have hsi : gSi G = mLn M := hV.2.1
  refine lv_aload_n hx hb dL_law_172 rfl (lv_at hl 1 rfl) ?_
  refine gl_callX S J (rest := []) (As := []) (n := 0) (mX_clear l D h ca (fun q => q ∈ adX h) G E  ) (lw_V q90 q91 q92 q23 q93) (by decide +kernel) ⟨Nat.le_of_ble_eq_true rfl, Nat.le_of_ble_eq_true rfl⟩ ⟨Nat.le_of_ble_eq_true rfl, Nat.le_of_ble_eq_true rfl⟩ hP hQ hS rfl hl.1 rfl (Nat.le_of_ble_eq_true rfl) dL_law_173 (fun rx ux H locs hux hP hQ hS => ?_)
  obtain ⟨e1, e3⟩ := hux
  subst e3
  have hP : va_P D vwCl (wX h ca (sGCn G 0) E) H := hP
  refine lv_aload_n hx hb dL_law_176 rfl (lv_at hl 2 rfl) ?_
  refine gl_callM S J (rest := [.int rx]) (As := []) (n := 0) (mM_clear l D g cg (fun q => q ∈ adM g) M  ) (lw_V q238 q239 q240 q24 q241) (by decide +kernel) ⟨Nat.le_of_ble_eq_true rfl, Nat.le_of_ble_eq_true rfl⟩ ⟨Nat.le_of_ble_eq_true rfl, Nat.le_of_ble_eq_true rfl⟩ hQ hP hS rfl hl.1 rfl (Nat.le_of_ble_eq_true rfl) dL_law_177 (fun rm um H locs hum hQ hP hS => ?_)
  obtain ⟨e2, e4⟩ := hum
  subst e4
  refine lv_icmp_eq (tgt := 537) hx hb dL_law_180 (by decide) (fun c1 => ?_) (fun c1 => ?_)
  · exact hgo _ _ _ _ _ (rel_clear hR) hP hQ hS
  · exact absurd (by rw [e1, e2, hcn]) c1
set_option maxHeartbeats 4000000 in
set_option maxRecDepth 100000 in
theorem law_rules {p : Program} {l : Launch} {e : Env} {s : State} {m : MethodId} {below : List Frame} {meth : Method} {c : Code} {b L : Nat} {xs : Nat → Int32} {D : va_G} {h g : Nat → Nat} {ca cg : Nat → ClassId} (hL : L ≤ 256) (C0 : lw_At p s m meth c b L xs) (J : LJ s D h g ca cg) {i : Nat} (hi : i + 4 ≤ L) {G : GG} {E : EE} {M : MM} (hR : rel G M) {H : Heap} {locs : List Loc} {ls : Array Slot} (hP : va_P D vwCl (wX h ca G E) H) (hQ : va_P D vwCl (wM g cg M) H) (hS : va_S (fun q : Nat => s.heap.size ≤ q) s.heap H locs) (hl : lv_has ls 4 [(0, .ref b), (1, .ref (h 0)), (2, .ref (g 0)), (3, .int (nI i))]) (hgo : ∀ (G : GG) (E : EE) (M : MM) (H : Heap) (locs : List Loc), rel G M → va_P D vwCl (wX h ca G E) H → va_P D vwCl (wM g cg M) H → va_S (fun q : Nat => s.heap.size ≤ q) s.heap H locs → W p l e room_1 s m #[Value.ref b] below meth c H locs 15 4890 (lw_Z below #[Value.ref b] s) (F0 m 537 ls [])) : W p l e room_1 s m #[Value.ref b] below meth c H locs 15 4890 (lw_Z below #[Value.ref b] s) (F0 m 185 ls []) := by
  obtain ⟨hx, hb, hr, hml, hown, hts, hX, hbl, hlocks, hgv⟩ := C0
  have hts : ∀ w ∈ lw_all, w.before #[Value.ref b] s = true := fun w hw => hts w (lw_all_tbl hw)
  have S : CallFix p m c code 4 s #[Value.ref b] lw_all R_law := ⟨hx, hb, hml, hown, hts⟩
  obtain ⟨hG, hM, hV⟩ := id hR
  have hcn : gCn G = mCn M := hV.1
  have hsi : gSi G = mLn M := hV.2.1
  refine lv_aload_n hx hb dL_law_185 rfl (lv_at hl 1 rfl) ?_
  refine gl_callSX S J (rest := []) (As := []) (n := 0) (mX_rules l D h ca (fun q => q ∈ adX h) G E  ) (lw_V q94 q95 q96 q23 q97) (by decide +kernel) ⟨Nat.le_of_ble_eq_true rfl, Nat.le_of_ble_eq_true rfl⟩ ⟨Nat.le_of_ble_eq_true rfl, Nat.le_of_ble_eq_true rfl⟩ hP hQ hS rfl hl.1 rfl (Nat.le_of_ble_eq_true rfl) dL_law_186 (fun rx e1 => ?_)
  refine lv_aload_n hx hb dL_law_189 rfl (lv_at hl 2 rfl) ?_
  refine gl_callSM S J (rest := [.int rx]) (As := []) (n := 0) (mM_rules l D g cg (fun q => q ∈ adM g) M  ) (lw_V q242 q243 q244 q24 q245) (by decide +kernel) ⟨Nat.le_of_ble_eq_true rfl, Nat.le_of_ble_eq_true rfl⟩ ⟨Nat.le_of_ble_eq_true rfl, Nat.le_of_ble_eq_true rfl⟩ hQ hP hS rfl hl.1 rfl (Nat.le_of_ble_eq_true rfl) dL_law_190 (fun rm e2 => ?_)
  refine lv_icmp_eq (tgt := 537) hx hb dL_law_193 (by decide) (fun c1 => ?_) (fun c1 => ?_)
  · exact hgo G E M H locs hR hP hQ hS
  · exact absurd (by rw [e1, e2, hcn]) c1
set_option maxHeartbeats 4000000 in
set_option maxRecDepth 100000 in
theorem law_push {p : Program} {l : Launch} {e : Env} {s : State} {m : MethodId} {below : List Frame} {meth : Method} {c : Code} {b L : Nat} {xs : Nat → Int32} {D : va_G} {h g : Nat → Nat} {ca cg : Nat → ClassId} (hL : L ≤ 256) (C0 : lw_At p s m meth c b L xs) (J : LJ s D h g ca cg) {i : Nat} (hi : i + 4 ≤ L) {G : GG} {E : EE} {M : MM} (hR : rel G M) {H : Heap} {locs : List Loc} {ls : Array Slot} (hP : va_P D vwCl (wX h ca G E) H) (hQ : va_P D vwCl (wM g cg M) H) (hS : va_S (fun q : Nat => s.heap.size ≤ q) s.heap H locs) (hl : lv_has ls 4 [(0, .ref b), (1, .ref (h 0)), (2, .ref (g 0)), (3, .int (nI i))]) (hgo : ∀ (G : GG) (E : EE) (M : MM) (H : Heap) (locs : List Loc), rel G M → va_P D vwCl (wX h ca G E) H → va_P D vwCl (wM g cg M) H → va_S (fun q : Nat => s.heap.size ≤ q) s.heap H locs → W p l e room_1 s m #[Value.ref b] below meth c H locs 15 4890 (lw_Z below #[Value.ref b] s) (F0 m 537 ls [])) : W p l e room_1 s m #[Value.ref b] below meth c H locs 15 4890 (lw_Z below #[Value.ref b] s) (F0 m 198 ls []) := by
  obtain ⟨hx, hb, hr, hml, hown, hts, hX, hbl, hlocks, hgv⟩ := C0
  have hts : ∀ w ∈ lw_all, w.before #[Value.ref b] s = true := fun w hw => hts w (lw_all_tbl hw)
  have S : CallFix p m c code 4 s #[Value.ref b] lw_all R_law := ⟨hx, hb, hml, hown, hts⟩
  obtain ⟨hG, hM, hV⟩ := id hR
  have hcn : gCn G = mCn M := hV.1
  have hsi : gSi G = mLn M := hV.2.1
  refine lv_aload_n hx hb dL_law_198 rfl (lv_at hl 1 rfl) ?_
  refine lv_aload_n hx hb dL_law_199 rfl (lv_at hl 0 rfl) ?_
  refine lv_iload_n hx hb dL_law_200 rfl (lv_at hl 3 rfl) ?_
  refine nr_iconst (v := 1) hx hb dL_law_201 (by decide +kernel) ?_
  refine nr_iadd hx hb dL_law_202 ?_
  refine gl_sld hx hb hX hbl hS (by omega) hL dL_law_203 ?_
  refine gl_callX S J (rest := []) (As := [.int (xs (i + 1))]) (n := 1) (mX_push l D h ca (fun q => q ∈ adX h) G E (xs (i + 1)) hG) (lw_V q98 q99 q100 q23 q101) (by decide +kernel) ⟨Nat.le_of_ble_eq_true rfl, Nat.le_of_ble_eq_true rfl⟩ ⟨Nat.le_of_ble_eq_true rfl, Nat.le_of_ble_eq_true rfl⟩ hP hQ hS rfl hl.1 rfl (Nat.le_of_ble_eq_true rfl) dL_law_204 (fun rx ux H locs hux hP hQ hS => ?_)
  obtain ⟨e1, e3⟩ := hux
  subst e3
  have hP : va_P D vwCl (wX h ca (pushG (xs (i + 1)) G) E) H := hP
  refine lv_aload_n hx hb dL_law_207 rfl (lv_at hl 2 rfl) ?_
  refine lv_aload_n hx hb dL_law_208 rfl (lv_at hl 0 rfl) ?_
  refine lv_iload_n hx hb dL_law_209 rfl (lv_at hl 3 rfl) ?_
  refine nr_iconst (v := 1) hx hb dL_law_210 (by decide +kernel) ?_
  refine nr_iadd hx hb dL_law_211 ?_
  refine gl_sld hx hb hX hbl hS (by omega) hL dL_law_212 ?_
  refine gl_callM S J (rest := [.int rx]) (As := [.int (xs (i + 1))]) (n := 1) (mM_push l D g cg (fun q => q ∈ adM g) M (xs (i + 1)) hM) (lw_V q246 q247 q248 q24 q249) (by decide +kernel) ⟨Nat.le_of_ble_eq_true rfl, Nat.le_of_ble_eq_true rfl⟩ ⟨Nat.le_of_ble_eq_true rfl, Nat.le_of_ble_eq_true rfl⟩ hQ hP hS rfl hl.1 rfl (Nat.le_of_ble_eq_true rfl) dL_law_213 (fun rm um H locs hum hQ hP hS => ?_)
  obtain ⟨e2, e4⟩ := hum
  subst e4
  refine lv_icmp_eq (tgt := 537) hx hb dL_law_216 (by decide) (fun c1 => ?_) (fun c1 => ?_)
  · exact hgo _ _ _ _ _ (rel_push hR (xs (i + 1))) hP hQ hS
  · exact absurd (by rw [e1, e2, hsi]) c1
set_option maxHeartbeats 4000000 in
set_option maxRecDepth 100000 in
theorem law_pop {p : Program} {l : Launch} {e : Env} {s : State} {m : MethodId} {below : List Frame} {meth : Method} {c : Code} {b L : Nat} {xs : Nat → Int32} {D : va_G} {h g : Nat → Nat} {ca cg : Nat → ClassId} (hL : L ≤ 256) (C0 : lw_At p s m meth c b L xs) (J : LJ s D h g ca cg) {i : Nat} (hi : i + 4 ≤ L) {G : GG} {E : EE} {M : MM} (hR : rel G M) {H : Heap} {locs : List Loc} {ls : Array Slot} (hP : va_P D vwCl (wX h ca G E) H) (hQ : va_P D vwCl (wM g cg M) H) (hS : va_S (fun q : Nat => s.heap.size ≤ q) s.heap H locs) (hl : lv_has ls 4 [(0, .ref b), (1, .ref (h 0)), (2, .ref (g 0)), (3, .int (nI i))]) (hgo : ∀ (G : GG) (E : EE) (M : MM) (H : Heap) (locs : List Loc), rel G M → va_P D vwCl (wX h ca G E) H → va_P D vwCl (wM g cg M) H → va_S (fun q : Nat => s.heap.size ≤ q) s.heap H locs → W p l e room_1 s m #[Value.ref b] below meth c H locs 15 4890 (lw_Z below #[Value.ref b] s) (F0 m 537 ls [])) : W p l e room_1 s m #[Value.ref b] below meth c H locs 15 4890 (lw_Z below #[Value.ref b] s) (F0 m 221 ls []) := by
  obtain ⟨hx, hb, hr, hml, hown, hts, hX, hbl, hlocks, hgv⟩ := C0
  have hts : ∀ w ∈ lw_all, w.before #[Value.ref b] s = true := fun w hw => hts w (lw_all_tbl hw)
  have S : CallFix p m c code 4 s #[Value.ref b] lw_all R_law := ⟨hx, hb, hml, hown, hts⟩
  obtain ⟨hG, hM, hV⟩ := id hR
  have hcn : gCn G = mCn M := hV.1
  have hsi : gSi G = mLn M := hV.2.1
  refine lv_aload_n hx hb dL_law_221 rfl (lv_at hl 1 rfl) ?_
  refine gl_callX S J (rest := []) (As := []) (n := 0) (mX_pop l D h ca (fun q => q ∈ adX h) G E  hG) (lw_V q102 q103 q104 q23 q105) (by decide +kernel) ⟨Nat.le_of_ble_eq_true rfl, Nat.le_of_ble_eq_true rfl⟩ ⟨Nat.le_of_ble_eq_true rfl, Nat.le_of_ble_eq_true rfl⟩ hP hQ hS rfl hl.1 rfl (Nat.le_of_ble_eq_true rfl) dL_law_222 (fun rx ux H locs hux hP hQ hS => ?_)
  obtain ⟨e1, e3⟩ := hux
  subst e3
  have hP : va_P D vwCl (wX h ca (popG G) E) H := hP
  refine lv_aload_n hx hb dL_law_225 rfl (lv_at hl 2 rfl) ?_
  refine gl_callM S J (rest := [.int rx]) (As := []) (n := 0) (mM_pop l D g cg (fun q => q ∈ adM g) M  hM) (lw_V q250 q251 q252 q24 q253) (by decide +kernel) ⟨Nat.le_of_ble_eq_true rfl, Nat.le_of_ble_eq_true rfl⟩ ⟨Nat.le_of_ble_eq_true rfl, Nat.le_of_ble_eq_true rfl⟩ hQ hP hS rfl hl.1 rfl (Nat.le_of_ble_eq_true rfl) dL_law_226 (fun rm um H locs hum hQ hP hS => ?_)
  obtain ⟨e2, e4⟩ := hum
  subst e4
  refine lv_icmp_eq (tgt := 537) hx hb dL_law_229 (by decide) (fun c1 => ?_) (fun c1 => ?_)
  · exact hgo _ _ _ _ _ ((rel_pop hR).1) hP hQ hS
  · exact absurd (by rw [e1, e2, (rel_pop hR).2]) c1
set_option maxHeartbeats 4000000 in
set_option maxRecDepth 100000 in
theorem law_write {p : Program} {l : Launch} {e : Env} {s : State} {m : MethodId} {below : List Frame} {meth : Method} {c : Code} {b L : Nat} {xs : Nat → Int32} {D : va_G} {h g : Nat → Nat} {ca cg : Nat → ClassId} (hL : L ≤ 256) (C0 : lw_At p s m meth c b L xs) (J : LJ s D h g ca cg) {i : Nat} (hi : i + 4 ≤ L) {G : GG} {E : EE} {M : MM} (hR : rel G M) {H : Heap} {locs : List Loc} {ls : Array Slot} (hP : va_P D vwCl (wX h ca G E) H) (hQ : va_P D vwCl (wM g cg M) H) (hS : va_S (fun q : Nat => s.heap.size ≤ q) s.heap H locs) (hl : lv_has ls 4 [(0, .ref b), (1, .ref (h 0)), (2, .ref (g 0)), (3, .int (nI i))]) (hgo : ∀ (G : GG) (E : EE) (M : MM) (H : Heap) (locs : List Loc), rel G M → va_P D vwCl (wX h ca G E) H → va_P D vwCl (wM g cg M) H → va_S (fun q : Nat => s.heap.size ≤ q) s.heap H locs → W p l e room_1 s m #[Value.ref b] below meth c H locs 15 4890 (lw_Z below #[Value.ref b] s) (F0 m 537 ls [])) : W p l e room_1 s m #[Value.ref b] below meth c H locs 15 4890 (lw_Z below #[Value.ref b] s) (F0 m 234 ls []) := by
  obtain ⟨hx, hb, hr, hml, hown, hts, hX, hbl, hlocks, hgv⟩ := C0
  have hts : ∀ w ∈ lw_all, w.before #[Value.ref b] s = true := fun w hw => hts w (lw_all_tbl hw)
  have S : CallFix p m c code 4 s #[Value.ref b] lw_all R_law := ⟨hx, hb, hml, hown, hts⟩
  obtain ⟨hG, hM, hV⟩ := id hR
  have hcn : gCn G = mCn M := hV.1
  have hsi : gSi G = mLn M := hV.2.1
  refine lv_aload_n hx hb dL_law_234 rfl (lv_at hl 1 rfl) ?_
  refine lv_aload_n hx hb dL_law_235 rfl (lv_at hl 0 rfl) ?_
  refine lv_iload_n hx hb dL_law_236 rfl (lv_at hl 3 rfl) ?_
  refine nr_iconst (v := 1) hx hb dL_law_237 (by decide +kernel) ?_
  refine nr_iadd hx hb dL_law_238 ?_
  refine gl_sld hx hb hX hbl hS (by omega) hL dL_law_239 ?_
  refine lv_aload_n hx hb dL_law_240 rfl (lv_at hl 0 rfl) ?_
  refine lv_iload_n hx hb dL_law_241 rfl (lv_at hl 3 rfl) ?_
  refine nr_iconst (v := 2) hx hb dL_law_242 (by decide +kernel) ?_
  refine nr_iadd hx hb dL_law_243 ?_
  refine gl_sld hx hb hX hbl hS (by omega) hL dL_law_244 ?_
  refine gl_callX S J (rest := []) (As := [.int (xs (i + 1)), .int (xs (i + 2))]) (n := 2) (mX_write l D h ca (fun q => q ∈ adX h) G E (xs (i + 1)) (xs (i + 2)) ) (lw_V q106 q107 q108 q23 q109) (by decide +kernel) ⟨Nat.le_of_ble_eq_true rfl, Nat.le_of_ble_eq_true rfl⟩ ⟨Nat.le_of_ble_eq_true rfl, Nat.le_of_ble_eq_true rfl⟩ hP hQ hS rfl hl.1 rfl (Nat.le_of_ble_eq_true rfl) dL_law_245 (fun rx ux H locs hux hP hQ hS => ?_)
  obtain ⟨e1, e3⟩ := hux
  subst e3
  have hP : va_P D vwCl (wX h ca (writeG (xs (i + 1)) (xs (i + 2)) G) E) H := hP
  refine lv_aload_n hx hb dL_law_248 rfl (lv_at hl 2 rfl) ?_
  refine lv_aload_n hx hb dL_law_249 rfl (lv_at hl 0 rfl) ?_
  refine lv_iload_n hx hb dL_law_250 rfl (lv_at hl 3 rfl) ?_
  refine nr_iconst (v := 1) hx hb dL_law_251 (by decide +kernel) ?_
  refine nr_iadd hx hb dL_law_252 ?_
  refine gl_sld hx hb hX hbl hS (by omega) hL dL_law_253 ?_
  refine lv_aload_n hx hb dL_law_254 rfl (lv_at hl 0 rfl) ?_
  refine lv_iload_n hx hb dL_law_255 rfl (lv_at hl 3 rfl) ?_
  refine nr_iconst (v := 2) hx hb dL_law_256 (by decide +kernel) ?_
  refine nr_iadd hx hb dL_law_257 ?_
  refine gl_sld hx hb hX hbl hS (by omega) hL dL_law_258 ?_
  refine gl_callM S J (rest := [.int rx]) (As := [.int (xs (i + 1)), .int (xs (i + 2))]) (n := 2) (mM_write l D g cg (fun q => q ∈ adM g) M (xs (i + 1)) (xs (i + 2)) ) (lw_V q254 q255 q256 q24 q257) (by decide +kernel) ⟨Nat.le_of_ble_eq_true rfl, Nat.le_of_ble_eq_true rfl⟩ ⟨Nat.le_of_ble_eq_true rfl, Nat.le_of_ble_eq_true rfl⟩ hQ hP hS rfl hl.1 rfl (Nat.le_of_ble_eq_true rfl) dL_law_259 (fun rm um H locs hum hQ hP hS => ?_)
  obtain ⟨e2, e4⟩ := hum
  subst e4
  refine lv_icmp_eq (tgt := 537) hx hb dL_law_262 (by decide) (fun c1 => ?_) (fun c1 => ?_)
  · exact hgo _ _ _ _ _ (rel_write hR (xs (i + 1)) (xs (i + 2))) hP hQ hS
  · exact absurd (by rw [e1, e2]) c1
set_option maxHeartbeats 4000000 in
set_option maxRecDepth 100000 in
theorem law_length {p : Program} {l : Launch} {e : Env} {s : State} {m : MethodId} {below : List Frame} {meth : Method} {c : Code} {b L : Nat} {xs : Nat → Int32} {D : va_G} {h g : Nat → Nat} {ca cg : Nat → ClassId} (hL : L ≤ 256) (C0 : lw_At p s m meth c b L xs) (J : LJ s D h g ca cg) {i : Nat} (hi : i + 4 ≤ L) {G : GG} {E : EE} {M : MM} (hR : rel G M) {H : Heap} {locs : List Loc} {ls : Array Slot} (hP : va_P D vwCl (wX h ca G E) H) (hQ : va_P D vwCl (wM g cg M) H) (hS : va_S (fun q : Nat => s.heap.size ≤ q) s.heap H locs) (hl : lv_has ls 4 [(0, .ref b), (1, .ref (h 0)), (2, .ref (g 0)), (3, .int (nI i))]) (hgo : ∀ (G : GG) (E : EE) (M : MM) (H : Heap) (locs : List Loc), rel G M → va_P D vwCl (wX h ca G E) H → va_P D vwCl (wM g cg M) H → va_S (fun q : Nat => s.heap.size ≤ q) s.heap H locs → W p l e room_1 s m #[Value.ref b] below meth c H locs 15 4890 (lw_Z below #[Value.ref b] s) (F0 m 537 ls [])) : W p l e room_1 s m #[Value.ref b] below meth c H locs 15 4890 (lw_Z below #[Value.ref b] s) (F0 m 267 ls []) := by
  obtain ⟨hx, hb, hr, hml, hown, hts, hX, hbl, hlocks, hgv⟩ := C0
  have hts : ∀ w ∈ lw_all, w.before #[Value.ref b] s = true := fun w hw => hts w (lw_all_tbl hw)
  have S : CallFix p m c code 4 s #[Value.ref b] lw_all R_law := ⟨hx, hb, hml, hown, hts⟩
  obtain ⟨hG, hM, hV⟩ := id hR
  have hcn : gCn G = mCn M := hV.1
  have hsi : gSi G = mLn M := hV.2.1
  refine lv_aload_n hx hb dL_law_267 rfl (lv_at hl 1 rfl) ?_
  refine gl_callSX S J (rest := []) (As := []) (n := 0) (mX_length l D h ca (fun q => q ∈ adX h) G E  ) (lw_V q110 q111 q112 q23 q113) (by decide +kernel) ⟨Nat.le_of_ble_eq_true rfl, Nat.le_of_ble_eq_true rfl⟩ ⟨Nat.le_of_ble_eq_true rfl, Nat.le_of_ble_eq_true rfl⟩ hP hQ hS rfl hl.1 rfl (Nat.le_of_ble_eq_true rfl) dL_law_268 (fun rx e1 => ?_)
  refine lv_aload_n hx hb dL_law_271 rfl (lv_at hl 2 rfl) ?_
  refine gl_callSM S J (rest := [.int rx]) (As := []) (n := 0) (mM_length l D g cg (fun q => q ∈ adM g) M  ) (lw_V q258 q259 q260 q24 q261) (by decide +kernel) ⟨Nat.le_of_ble_eq_true rfl, Nat.le_of_ble_eq_true rfl⟩ ⟨Nat.le_of_ble_eq_true rfl, Nat.le_of_ble_eq_true rfl⟩ hQ hP hS rfl hl.1 rfl (Nat.le_of_ble_eq_true rfl) dL_law_272 (fun rm e2 => ?_)
  refine lv_icmp_eq (tgt := 537) hx hb dL_law_275 (by decide) (fun c1 => ?_) (fun c1 => ?_)
  · exact hgo G E M H locs hR hP hQ hS
  · exact absurd (by rw [e1, e2, hsi]) c1
set_option maxHeartbeats 4000000 in
set_option maxRecDepth 100000 in
theorem law_accepts {p : Program} {l : Launch} {e : Env} {s : State} {m : MethodId} {below : List Frame} {meth : Method} {c : Code} {b L : Nat} {xs : Nat → Int32} {D : va_G} {h g : Nat → Nat} {ca cg : Nat → ClassId} (hL : L ≤ 256) (C0 : lw_At p s m meth c b L xs) (J : LJ s D h g ca cg) {i : Nat} (hi : i + 4 ≤ L) {G : GG} {E : EE} {M : MM} (hR : rel G M) {H : Heap} {locs : List Loc} {ls : Array Slot} (hP : va_P D vwCl (wX h ca G E) H) (hQ : va_P D vwCl (wM g cg M) H) (hS : va_S (fun q : Nat => s.heap.size ≤ q) s.heap H locs) (hl : lv_has ls 4 [(0, .ref b), (1, .ref (h 0)), (2, .ref (g 0)), (3, .int (nI i))]) (hgo : ∀ (G : GG) (E : EE) (M : MM) (H : Heap) (locs : List Loc), rel G M → va_P D vwCl (wX h ca G E) H → va_P D vwCl (wM g cg M) H → va_S (fun q : Nat => s.heap.size ≤ q) s.heap H locs → W p l e room_1 s m #[Value.ref b] below meth c H locs 15 4890 (lw_Z below #[Value.ref b] s) (F0 m 537 ls [])) : W p l e room_1 s m #[Value.ref b] below meth c H locs 15 4890 (lw_Z below #[Value.ref b] s) (F0 m 280 ls []) := by
  obtain ⟨hx, hb, hr, hml, hown, hts, hX, hbl, hlocks, hgv⟩ := C0
  have hts : ∀ w ∈ lw_all, w.before #[Value.ref b] s = true := fun w hw => hts w (lw_all_tbl hw)
  have S : CallFix p m c code 4 s #[Value.ref b] lw_all R_law := ⟨hx, hb, hml, hown, hts⟩
  obtain ⟨hG, hM, hV⟩ := id hR
  have hcn : gCn G = mCn M := hV.1
  have hsi : gSi G = mLn M := hV.2.1
  refine lv_aload_n hx hb dL_law_280 rfl (lv_at hl 1 rfl) ?_
  refine gl_callX S J (rest := []) (As := []) (n := 0) (mX_accepts l D h ca (fun q => q ∈ adX h) G E  hG) (lw_V q114 q115 q116 q23 q117) (by decide +kernel) ⟨Nat.le_of_ble_eq_true rfl, Nat.le_of_ble_eq_true rfl⟩ ⟨Nat.le_of_ble_eq_true rfl, Nat.le_of_ble_eq_true rfl⟩ hP hQ hS rfl hl.1 rfl (Nat.le_of_ble_eq_true rfl) dL_law_281 (fun rx ux H locs hux hP hQ hS => ?_)
  obtain ⟨u1, E1⟩ := ux
  obtain ⟨e3, e1⟩ := hux
  have e3 : u1 = G := e3
  have hP : va_P D vwCl (wX h ca G E1) H := by rw [← e3]; exact hP
  refine lv_aload_n hx hb dL_law_284 rfl (lv_at hl 2 rfl) ?_
  refine gl_callM S J (rest := [.int rx]) (As := []) (n := 0) (mM_accepts l D g cg (fun q => q ∈ adM g) M  hM) (lw_V q262 q263 q264 q24 q265) (by decide +kernel) ⟨Nat.le_of_ble_eq_true rfl, Nat.le_of_ble_eq_true rfl⟩ ⟨Nat.le_of_ble_eq_true rfl, Nat.le_of_ble_eq_true rfl⟩ hQ hP hS rfl hl.1 rfl (Nat.le_of_ble_eq_true rfl) dL_law_285 (fun rm um H locs hum hQ hP hS => ?_)
  obtain ⟨⟨T2, e4⟩, e2⟩ := hum
  subst e4
  refine lv_icmp_eq (tgt := 537) hx hb dL_law_288 (by decide) (fun c1 => ?_) (fun c1 => ?_)
  · exact hgo _ _ _ _ _ (rel_T (hR) T2) hP hQ hS
  · exact absurd (by rw [e1, e2, sfb_fun hV, hsi]) c1
set_option maxHeartbeats 4000000 in
set_option maxRecDepth 100000 in
theorem law_fits {p : Program} {l : Launch} {e : Env} {s : State} {m : MethodId} {below : List Frame} {meth : Method} {c : Code} {b L : Nat} {xs : Nat → Int32} {D : va_G} {h g : Nat → Nat} {ca cg : Nat → ClassId} (hL : L ≤ 256) (C0 : lw_At p s m meth c b L xs) (J : LJ s D h g ca cg) {i : Nat} (hi : i + 4 ≤ L) {G : GG} {E : EE} {M : MM} (hR : rel G M) {H : Heap} {locs : List Loc} {ls : Array Slot} (hP : va_P D vwCl (wX h ca G E) H) (hQ : va_P D vwCl (wM g cg M) H) (hS : va_S (fun q : Nat => s.heap.size ≤ q) s.heap H locs) (hl : lv_has ls 4 [(0, .ref b), (1, .ref (h 0)), (2, .ref (g 0)), (3, .int (nI i))]) (hgo : ∀ (G : GG) (E : EE) (M : MM) (H : Heap) (locs : List Loc), rel G M → va_P D vwCl (wX h ca G E) H → va_P D vwCl (wM g cg M) H → va_S (fun q : Nat => s.heap.size ≤ q) s.heap H locs → W p l e room_1 s m #[Value.ref b] below meth c H locs 15 4890 (lw_Z below #[Value.ref b] s) (F0 m 537 ls [])) : W p l e room_1 s m #[Value.ref b] below meth c H locs 15 4890 (lw_Z below #[Value.ref b] s) (F0 m 293 ls []) := by
  obtain ⟨hx, hb, hr, hml, hown, hts, hX, hbl, hlocks, hgv⟩ := C0
  have hts : ∀ w ∈ lw_all, w.before #[Value.ref b] s = true := fun w hw => hts w (lw_all_tbl hw)
  have S : CallFix p m c code 4 s #[Value.ref b] lw_all R_law := ⟨hx, hb, hml, hown, hts⟩
  obtain ⟨hG, hM, hV⟩ := id hR
  have hcn : gCn G = mCn M := hV.1
  have hsi : gSi G = mLn M := hV.2.1
  refine lv_aload_n hx hb dL_law_293 rfl (lv_at hl 1 rfl) ?_
  refine lv_aload_n hx hb dL_law_294 rfl (lv_at hl 0 rfl) ?_
  refine lv_iload_n hx hb dL_law_295 rfl (lv_at hl 3 rfl) ?_
  refine nr_iconst (v := 1) hx hb dL_law_296 (by decide +kernel) ?_
  refine nr_iadd hx hb dL_law_297 ?_
  refine gl_sld hx hb hX hbl hS (by omega) hL dL_law_298 ?_
  refine lv_aload_n hx hb dL_law_299 rfl (lv_at hl 0 rfl) ?_
  refine lv_iload_n hx hb dL_law_300 rfl (lv_at hl 3 rfl) ?_
  refine nr_iconst (v := 2) hx hb dL_law_301 (by decide +kernel) ?_
  refine nr_iadd hx hb dL_law_302 ?_
  refine gl_sld hx hb hX hbl hS (by omega) hL dL_law_303 ?_
  refine lv_aload_n hx hb dL_law_304 rfl (lv_at hl 0 rfl) ?_
  refine lv_iload_n hx hb dL_law_305 rfl (lv_at hl 3 rfl) ?_
  refine nr_iconst (v := 3) hx hb dL_law_306 (by decide +kernel) ?_
  refine nr_iadd hx hb dL_law_307 ?_
  refine gl_sld hx hb hX hbl hS (by omega) hL dL_law_308 ?_
  refine gl_callX S J (rest := []) (As := [.int (xs (i + 1)), .int (xs (i + 2)), .int (xs (i + 3))]) (n := 3) (mX_fits l D h ca (fun q => q ∈ adX h) G E (xs (i + 1)) (xs (i + 2)) (xs (i + 3)) hG) (lw_V q154 q155 q156 q23 q157) (by decide +kernel) ⟨Nat.le_of_ble_eq_true rfl, Nat.le_of_ble_eq_true rfl⟩ ⟨Nat.le_of_ble_eq_true rfl, Nat.le_of_ble_eq_true rfl⟩ hP hQ hS rfl hl.1 rfl (Nat.le_of_ble_eq_true rfl) dL_law_309 (fun rx ux H locs hux hP hQ hS => ?_)
  obtain ⟨u1, E1⟩ := ux
  obtain ⟨e3, e1⟩ := hux
  have e3 : u1 = G := e3
  have hP : va_P D vwCl (wX h ca G E1) H := by rw [← e3]; exact hP
  refine lv_aload_n hx hb dL_law_312 rfl (lv_at hl 2 rfl) ?_
  refine lv_aload_n hx hb dL_law_313 rfl (lv_at hl 0 rfl) ?_
  refine lv_iload_n hx hb dL_law_314 rfl (lv_at hl 3 rfl) ?_
  refine nr_iconst (v := 1) hx hb dL_law_315 (by decide +kernel) ?_
  refine nr_iadd hx hb dL_law_316 ?_
  refine gl_sld hx hb hX hbl hS (by omega) hL dL_law_317 ?_
  refine lv_aload_n hx hb dL_law_318 rfl (lv_at hl 0 rfl) ?_
  refine lv_iload_n hx hb dL_law_319 rfl (lv_at hl 3 rfl) ?_
  refine nr_iconst (v := 2) hx hb dL_law_320 (by decide +kernel) ?_
  refine nr_iadd hx hb dL_law_321 ?_
  refine gl_sld hx hb hX hbl hS (by omega) hL dL_law_322 ?_
  refine lv_aload_n hx hb dL_law_323 rfl (lv_at hl 0 rfl) ?_
  refine lv_iload_n hx hb dL_law_324 rfl (lv_at hl 3 rfl) ?_
  refine nr_iconst (v := 3) hx hb dL_law_325 (by decide +kernel) ?_
  refine nr_iadd hx hb dL_law_326 ?_
  refine gl_sld hx hb hX hbl hS (by omega) hL dL_law_327 ?_
  refine gl_callM S J (rest := [.int rx]) (As := [.int (xs (i + 1)), .int (xs (i + 2)), .int (xs (i + 3))]) (n := 3) (mM_fits l D g cg (fun q => q ∈ adM g) M (xs (i + 1)) (xs (i + 2)) (xs (i + 3)) hM) (lw_V q290 q291 q292 q24 q293) (by decide +kernel) ⟨Nat.le_of_ble_eq_true rfl, Nat.le_of_ble_eq_true rfl⟩ ⟨Nat.le_of_ble_eq_true rfl, Nat.le_of_ble_eq_true rfl⟩ hQ hP hS rfl hl.1 rfl (Nat.le_of_ble_eq_true rfl) dL_law_328 (fun rm um H locs hum hQ hP hS => ?_)
  obtain ⟨⟨T2, e4⟩, e2⟩ := hum
  subst e4
  refine lv_icmp_eq (tgt := 537) hx hb dL_law_331 (by decide) (fun c1 => ?_) (fun c1 => ?_)
  · exact hgo _ _ _ _ _ (rel_T (hR) T2) hP hQ hS
  · exact absurd (by rw [e1, e2, fitsA_eq hV]) c1
set_option maxHeartbeats 4000000 in
set_option maxRecDepth 100000 in
theorem law_ends {p : Program} {l : Launch} {e : Env} {s : State} {m : MethodId} {below : List Frame} {meth : Method} {c : Code} {b L : Nat} {xs : Nat → Int32} {D : va_G} {h g : Nat → Nat} {ca cg : Nat → ClassId} (hL : L ≤ 256) (C0 : lw_At p s m meth c b L xs) (J : LJ s D h g ca cg) {i : Nat} (hi : i + 4 ≤ L) {G : GG} {E : EE} {M : MM} (hR : rel G M) {H : Heap} {locs : List Loc} {ls : Array Slot} (hP : va_P D vwCl (wX h ca G E) H) (hQ : va_P D vwCl (wM g cg M) H) (hS : va_S (fun q : Nat => s.heap.size ≤ q) s.heap H locs) (hl : lv_has ls 4 [(0, .ref b), (1, .ref (h 0)), (2, .ref (g 0)), (3, .int (nI i))]) (hgo : ∀ (G : GG) (E : EE) (M : MM) (H : Heap) (locs : List Loc), rel G M → va_P D vwCl (wX h ca G E) H → va_P D vwCl (wM g cg M) H → va_S (fun q : Nat => s.heap.size ≤ q) s.heap H locs → W p l e room_1 s m #[Value.ref b] below meth c H locs 15 4890 (lw_Z below #[Value.ref b] s) (F0 m 537 ls [])) : W p l e room_1 s m #[Value.ref b] below meth c H locs 15 4890 (lw_Z below #[Value.ref b] s) (F0 m 336 ls []) := by
  obtain ⟨hx, hb, hr, hml, hown, hts, hX, hbl, hlocks, hgv⟩ := C0
  have hts : ∀ w ∈ lw_all, w.before #[Value.ref b] s = true := fun w hw => hts w (lw_all_tbl hw)
  have S : CallFix p m c code 4 s #[Value.ref b] lw_all R_law := ⟨hx, hb, hml, hown, hts⟩
  obtain ⟨hG, hM, hV⟩ := id hR
  have hcn : gCn G = mCn M := hV.1
  have hsi : gSi G = mLn M := hV.2.1
  refine lv_aload_n hx hb dL_law_336 rfl (lv_at hl 1 rfl) ?_
  refine lv_aload_n hx hb dL_law_337 rfl (lv_at hl 0 rfl) ?_
  refine lv_iload_n hx hb dL_law_338 rfl (lv_at hl 3 rfl) ?_
  refine nr_iconst (v := 1) hx hb dL_law_339 (by decide +kernel) ?_
  refine nr_iadd hx hb dL_law_340 ?_
  refine gl_sld hx hb hX hbl hS (by omega) hL dL_law_341 ?_
  refine lv_aload_n hx hb dL_law_342 rfl (lv_at hl 0 rfl) ?_
  refine lv_iload_n hx hb dL_law_343 rfl (lv_at hl 3 rfl) ?_
  refine nr_iconst (v := 2) hx hb dL_law_344 (by decide +kernel) ?_
  refine nr_iadd hx hb dL_law_345 ?_
  refine gl_sld hx hb hX hbl hS (by omega) hL dL_law_346 ?_
  refine gl_callX S J (rest := []) (As := [.int (xs (i + 1)), .int (xs (i + 2))]) (n := 2) (mX_ends l D h ca (fun q => q ∈ adX h) G E (xs (i + 1)) (xs (i + 2)) hG) (lw_V q165 q166 q167 q23 q168) (by decide +kernel) ⟨Nat.le_of_ble_eq_true rfl, Nat.le_of_ble_eq_true rfl⟩ ⟨Nat.le_of_ble_eq_true rfl, Nat.le_of_ble_eq_true rfl⟩ hP hQ hS rfl hl.1 rfl (Nat.le_of_ble_eq_true rfl) dL_law_347 (fun rx ux H locs hux hP hQ hS => ?_)
  obtain ⟨u1, E1⟩ := ux
  obtain ⟨e3, e1⟩ := hux
  have e3 : u1 = G := e3
  have hP : va_P D vwCl (wX h ca G E1) H := by rw [← e3]; exact hP
  refine lv_aload_n hx hb dL_law_350 rfl (lv_at hl 2 rfl) ?_
  refine lv_aload_n hx hb dL_law_351 rfl (lv_at hl 0 rfl) ?_
  refine lv_iload_n hx hb dL_law_352 rfl (lv_at hl 3 rfl) ?_
  refine nr_iconst (v := 1) hx hb dL_law_353 (by decide +kernel) ?_
  refine nr_iadd hx hb dL_law_354 ?_
  refine gl_sld hx hb hX hbl hS (by omega) hL dL_law_355 ?_
  refine lv_aload_n hx hb dL_law_356 rfl (lv_at hl 0 rfl) ?_
  refine lv_iload_n hx hb dL_law_357 rfl (lv_at hl 3 rfl) ?_
  refine nr_iconst (v := 2) hx hb dL_law_358 (by decide +kernel) ?_
  refine nr_iadd hx hb dL_law_359 ?_
  refine gl_sld hx hb hX hbl hS (by omega) hL dL_law_360 ?_
  refine gl_callM S J (rest := [.int rx]) (As := [.int (xs (i + 1)), .int (xs (i + 2))]) (n := 2) (mM_ends l D g cg (fun q => q ∈ adM g) M (xs (i + 1)) (xs (i + 2)) hM) (lw_V q302 q303 q304 q24 q305) (by decide +kernel) ⟨Nat.le_of_ble_eq_true rfl, Nat.le_of_ble_eq_true rfl⟩ ⟨Nat.le_of_ble_eq_true rfl, Nat.le_of_ble_eq_true rfl⟩ hQ hP hS rfl hl.1 rfl (Nat.le_of_ble_eq_true rfl) dL_law_361 (fun rm um H locs hum hQ hP hS => ?_)
  obtain ⟨⟨T2, e4⟩, e2⟩ := hum
  subst e4
  refine lv_icmp_eq (tgt := 537) hx hb dL_law_364 (by decide) (fun c1 => ?_) (fun c1 => ?_)
  · exact hgo _ _ _ _ _ (rel_T (hR) T2) hP hQ hS
  · exact absurd (by rw [e1, e2, endsA_eq hV]) c1
set_option maxHeartbeats 4000000 in
set_option maxRecDepth 100000 in
theorem law_ruleFits {p : Program} {l : Launch} {e : Env} {s : State} {m : MethodId} {below : List Frame} {meth : Method} {c : Code} {b L : Nat} {xs : Nat → Int32} {D : va_G} {h g : Nat → Nat} {ca cg : Nat → ClassId} (hL : L ≤ 256) (C0 : lw_At p s m meth c b L xs) (J : LJ s D h g ca cg) {i : Nat} (hi : i + 4 ≤ L) {G : GG} {E : EE} {M : MM} (hR : rel G M) {H : Heap} {locs : List Loc} {ls : Array Slot} (hP : va_P D vwCl (wX h ca G E) H) (hQ : va_P D vwCl (wM g cg M) H) (hS : va_S (fun q : Nat => s.heap.size ≤ q) s.heap H locs) (hl : lv_has ls 4 [(0, .ref b), (1, .ref (h 0)), (2, .ref (g 0)), (3, .int (nI i))]) (hgo : ∀ (G : GG) (E : EE) (M : MM) (H : Heap) (locs : List Loc), rel G M → va_P D vwCl (wX h ca G E) H → va_P D vwCl (wM g cg M) H → va_S (fun q : Nat => s.heap.size ≤ q) s.heap H locs → W p l e room_1 s m #[Value.ref b] below meth c H locs 15 4890 (lw_Z below #[Value.ref b] s) (F0 m 537 ls [])) : W p l e room_1 s m #[Value.ref b] below meth c H locs 15 4890 (lw_Z below #[Value.ref b] s) (F0 m 369 ls []) := by
  obtain ⟨hx, hb, hr, hml, hown, hts, hX, hbl, hlocks, hgv⟩ := C0
  have hts : ∀ w ∈ lw_all, w.before #[Value.ref b] s = true := fun w hw => hts w (lw_all_tbl hw)
  have S : CallFix p m c code 4 s #[Value.ref b] lw_all R_law := ⟨hx, hb, hml, hown, hts⟩
  obtain ⟨hG, hM, hV⟩ := id hR
  have hcn : gCn G = mCn M := hV.1
  have hsi : gSi G = mLn M := hV.2.1
  refine lv_aload_n hx hb dL_law_369 rfl (lv_at hl 1 rfl) ?_
  refine lv_aload_n hx hb dL_law_370 rfl (lv_at hl 0 rfl) ?_
  refine lv_iload_n hx hb dL_law_371 rfl (lv_at hl 3 rfl) ?_
  refine nr_iconst (v := 1) hx hb dL_law_372 (by decide +kernel) ?_
  refine nr_iadd hx hb dL_law_373 ?_
  refine gl_sld hx hb hX hbl hS (by omega) hL dL_law_374 ?_
  refine lv_aload_n hx hb dL_law_375 rfl (lv_at hl 0 rfl) ?_
  refine lv_iload_n hx hb dL_law_376 rfl (lv_at hl 3 rfl) ?_
  refine nr_iconst (v := 2) hx hb dL_law_377 (by decide +kernel) ?_
  refine nr_iadd hx hb dL_law_378 ?_
  refine gl_sld hx hb hX hbl hS (by omega) hL dL_law_379 ?_
  refine lv_aload_n hx hb dL_law_380 rfl (lv_at hl 0 rfl) ?_
  refine lv_iload_n hx hb dL_law_381 rfl (lv_at hl 3 rfl) ?_
  refine nr_iconst (v := 3) hx hb dL_law_382 (by decide +kernel) ?_
  refine nr_iadd hx hb dL_law_383 ?_
  refine gl_sld hx hb hX hbl hS (by omega) hL dL_law_384 ?_
  refine gl_callX S J (rest := []) (As := [.int (xs (i + 1)), .int (xs (i + 2)), .int (xs (i + 3))]) (n := 3) (mX_ruleFits l D h ca (fun q => q ∈ adX h) G E (xs (i + 1)) (xs (i + 2)) (xs (i + 3)) hG) (lw_V q169 q170 q171 q23 q172) (by decide +kernel) ⟨Nat.le_of_ble_eq_true rfl, Nat.le_of_ble_eq_true rfl⟩ ⟨Nat.le_of_ble_eq_true rfl, Nat.le_of_ble_eq_true rfl⟩ hP hQ hS rfl hl.1 rfl (Nat.le_of_ble_eq_true rfl) dL_law_385 (fun rx ux H locs hux hP hQ hS => ?_)
  obtain ⟨u1, E1⟩ := ux
  obtain ⟨e3, e1⟩ := hux
  have e3 : u1 = G := e3
  have hP : va_P D vwCl (wX h ca G E1) H := by rw [← e3]; exact hP
  refine lv_aload_n hx hb dL_law_388 rfl (lv_at hl 2 rfl) ?_
  refine lv_aload_n hx hb dL_law_389 rfl (lv_at hl 0 rfl) ?_
  refine lv_iload_n hx hb dL_law_390 rfl (lv_at hl 3 rfl) ?_
  refine nr_iconst (v := 1) hx hb dL_law_391 (by decide +kernel) ?_
  refine nr_iadd hx hb dL_law_392 ?_
  refine gl_sld hx hb hX hbl hS (by omega) hL dL_law_393 ?_
  refine lv_aload_n hx hb dL_law_394 rfl (lv_at hl 0 rfl) ?_
  refine lv_iload_n hx hb dL_law_395 rfl (lv_at hl 3 rfl) ?_
  refine nr_iconst (v := 2) hx hb dL_law_396 (by decide +kernel) ?_
  refine nr_iadd hx hb dL_law_397 ?_
  refine gl_sld hx hb hX hbl hS (by omega) hL dL_law_398 ?_
  refine lv_aload_n hx hb dL_law_399 rfl (lv_at hl 0 rfl) ?_
  refine lv_iload_n hx hb dL_law_400 rfl (lv_at hl 3 rfl) ?_
  refine nr_iconst (v := 3) hx hb dL_law_401 (by decide +kernel) ?_
  refine nr_iadd hx hb dL_law_402 ?_
  refine gl_sld hx hb hX hbl hS (by omega) hL dL_law_403 ?_
  refine gl_callM S J (rest := [.int rx]) (As := [.int (xs (i + 1)), .int (xs (i + 2)), .int (xs (i + 3))]) (n := 3) (mM_ruleFits l D g cg (fun q => q ∈ adM g) M (xs (i + 1)) (xs (i + 2)) (xs (i + 3)) hM) (lw_V q306 q307 q308 q24 q309) (by decide +kernel) ⟨Nat.le_of_ble_eq_true rfl, Nat.le_of_ble_eq_true rfl⟩ ⟨Nat.le_of_ble_eq_true rfl, Nat.le_of_ble_eq_true rfl⟩ hQ hP hS rfl hl.1 rfl (Nat.le_of_ble_eq_true rfl) dL_law_404 (fun rm um H locs hum hQ hP hS => ?_)
  obtain ⟨⟨T2, e4⟩, e2⟩ := hum
  subst e4
  refine lv_icmp_eq (tgt := 537) hx hb dL_law_407 (by decide) (fun c1 => ?_) (fun c1 => ?_)
  · exact hgo _ _ _ _ _ (rel_T (hR) T2) hP hQ hS
  · exact absurd (by rw [e1, e2, ruleFitsA_eq hV hG.1]) c1
set_option maxHeartbeats 4000000 in
set_option maxRecDepth 100000 in
theorem law_stretches {p : Program} {l : Launch} {e : Env} {s : State} {m : MethodId} {below : List Frame} {meth : Method} {c : Code} {b L : Nat} {xs : Nat → Int32} {D : va_G} {h g : Nat → Nat} {ca cg : Nat → ClassId} (hL : L ≤ 256) (C0 : lw_At p s m meth c b L xs) (J : LJ s D h g ca cg) {i : Nat} (hi : i + 4 ≤ L) {G : GG} {E : EE} {M : MM} (hR : rel G M) {H : Heap} {locs : List Loc} {ls : Array Slot} (hP : va_P D vwCl (wX h ca G E) H) (hQ : va_P D vwCl (wM g cg M) H) (hS : va_S (fun q : Nat => s.heap.size ≤ q) s.heap H locs) (hl : lv_has ls 4 [(0, .ref b), (1, .ref (h 0)), (2, .ref (g 0)), (3, .int (nI i))]) (hgo : ∀ (G : GG) (E : EE) (M : MM) (H : Heap) (locs : List Loc), rel G M → va_P D vwCl (wX h ca G E) H → va_P D vwCl (wM g cg M) H → va_S (fun q : Nat => s.heap.size ≤ q) s.heap H locs → W p l e room_1 s m #[Value.ref b] below meth c H locs 15 4890 (lw_Z below #[Value.ref b] s) (F0 m 537 ls [])) : W p l e room_1 s m #[Value.ref b] below meth c H locs 15 4890 (lw_Z below #[Value.ref b] s) (F0 m 412 ls []) := by
  obtain ⟨hx, hb, hr, hml, hown, hts, hX, hbl, hlocks, hgv⟩ := C0
  have hts : ∀ w ∈ lw_all, w.before #[Value.ref b] s = true := fun w hw => hts w (lw_all_tbl hw)
  have S : CallFix p m c code 4 s #[Value.ref b] lw_all R_law := ⟨hx, hb, hml, hown, hts⟩
  obtain ⟨hG, hM, hV⟩ := id hR
  have hcn : gCn G = mCn M := hV.1
  have hsi : gSi G = mLn M := hV.2.1
  refine lv_aload_n hx hb dL_law_412 rfl (lv_at hl 1 rfl) ?_
  refine lv_aload_n hx hb dL_law_413 rfl (lv_at hl 0 rfl) ?_
  refine lv_iload_n hx hb dL_law_414 rfl (lv_at hl 3 rfl) ?_
  refine nr_iconst (v := 1) hx hb dL_law_415 (by decide +kernel) ?_
  refine nr_iadd hx hb dL_law_416 ?_
  refine gl_sld hx hb hX hbl hS (by omega) hL dL_law_417 ?_
  refine gl_callX S J (rest := []) (As := [.int (xs (i + 1))]) (n := 1) (mX_stretches l D h ca (fun q => q ∈ adX h) G E (xs (i + 1)) hG) (lw_V q177 q178 q179 q23 q180) (by decide +kernel) ⟨Nat.le_of_ble_eq_true rfl, Nat.le_of_ble_eq_true rfl⟩ ⟨Nat.le_of_ble_eq_true rfl, Nat.le_of_ble_eq_true rfl⟩ hP hQ hS rfl hl.1 rfl (Nat.le_of_ble_eq_true rfl) dL_law_418 (fun rx ux H locs hux hP hQ hS => ?_)
  obtain ⟨u1, E1⟩ := ux
  obtain ⟨e3, e1⟩ := hux
  have e3 : u1 = G := e3
  have hP : va_P D vwCl (wX h ca G E1) H := by rw [← e3]; exact hP
  refine lv_aload_n hx hb dL_law_421 rfl (lv_at hl 2 rfl) ?_
  refine lv_aload_n hx hb dL_law_422 rfl (lv_at hl 0 rfl) ?_
  refine lv_iload_n hx hb dL_law_423 rfl (lv_at hl 3 rfl) ?_
  refine nr_iconst (v := 1) hx hb dL_law_424 (by decide +kernel) ?_
  refine nr_iadd hx hb dL_law_425 ?_
  refine gl_sld hx hb hX hbl hS (by omega) hL dL_law_426 ?_
  refine gl_callM S J (rest := [.int rx]) (As := [.int (xs (i + 1))]) (n := 1) (mM_stretches l D g cg (fun q => q ∈ adM g) M (xs (i + 1)) hM) (lw_V q310 q311 q312 q24 q313) (by decide +kernel) ⟨Nat.le_of_ble_eq_true rfl, Nat.le_of_ble_eq_true rfl⟩ ⟨Nat.le_of_ble_eq_true rfl, Nat.le_of_ble_eq_true rfl⟩ hQ hP hS rfl hl.1 rfl (Nat.le_of_ble_eq_true rfl) dL_law_427 (fun rm um H locs hum hQ hP hS => ?_)
  obtain ⟨⟨T2, e4⟩, e2⟩ := hum
  subst e4
  refine lv_icmp_eq (tgt := 537) hx hb dL_law_430 (by decide) (fun c1 => ?_) (fun c1 => ?_)
  · exact hgo _ _ _ _ _ (rel_T (hR) T2) hP hQ hS
  · exact absurd (by rw [e1, e2, strA_eq hV]) c1
set_option maxHeartbeats 4000000 in
set_option maxRecDepth 100000 in
theorem law_longest {p : Program} {l : Launch} {e : Env} {s : State} {m : MethodId} {below : List Frame} {meth : Method} {c : Code} {b L : Nat} {xs : Nat → Int32} {D : va_G} {h g : Nat → Nat} {ca cg : Nat → ClassId} (hL : L ≤ 256) (C0 : lw_At p s m meth c b L xs) (J : LJ s D h g ca cg) {i : Nat} (hi : i + 4 ≤ L) {G : GG} {E : EE} {M : MM} (hR : rel G M) {H : Heap} {locs : List Loc} {ls : Array Slot} (hP : va_P D vwCl (wX h ca G E) H) (hQ : va_P D vwCl (wM g cg M) H) (hS : va_S (fun q : Nat => s.heap.size ≤ q) s.heap H locs) (hl : lv_has ls 4 [(0, .ref b), (1, .ref (h 0)), (2, .ref (g 0)), (3, .int (nI i))]) (hgo : ∀ (G : GG) (E : EE) (M : MM) (H : Heap) (locs : List Loc), rel G M → va_P D vwCl (wX h ca G E) H → va_P D vwCl (wM g cg M) H → va_S (fun q : Nat => s.heap.size ≤ q) s.heap H locs → W p l e room_1 s m #[Value.ref b] below meth c H locs 15 4890 (lw_Z below #[Value.ref b] s) (F0 m 537 ls [])) : W p l e room_1 s m #[Value.ref b] below meth c H locs 15 4890 (lw_Z below #[Value.ref b] s) (F0 m 435 ls []) := by
  obtain ⟨hx, hb, hr, hml, hown, hts, hX, hbl, hlocks, hgv⟩ := C0
  have hts : ∀ w ∈ lw_all, w.before #[Value.ref b] s = true := fun w hw => hts w (lw_all_tbl hw)
  have S : CallFix p m c code 4 s #[Value.ref b] lw_all R_law := ⟨hx, hb, hml, hown, hts⟩
  obtain ⟨hG, hM, hV⟩ := id hR
  have hcn : gCn G = mCn M := hV.1
  have hsi : gSi G = mLn M := hV.2.1
  refine lv_aload_n hx hb dL_law_435 rfl (lv_at hl 1 rfl) ?_
  refine lv_aload_n hx hb dL_law_436 rfl (lv_at hl 0 rfl) ?_
  refine lv_iload_n hx hb dL_law_437 rfl (lv_at hl 3 rfl) ?_
  refine nr_iconst (v := 1) hx hb dL_law_438 (by decide +kernel) ?_
  refine nr_iadd hx hb dL_law_439 ?_
  refine gl_sld hx hb hX hbl hS (by omega) hL dL_law_440 ?_
  refine gl_callX S J (rest := []) (As := [.int (xs (i + 1))]) (n := 1) (mX_longest l D h ca (fun q => q ∈ adX h) G E (xs (i + 1)) hG) (lw_V q181 q182 q183 q23 q184) (by decide +kernel) ⟨Nat.le_of_ble_eq_true rfl, Nat.le_of_ble_eq_true rfl⟩ ⟨Nat.le_of_ble_eq_true rfl, Nat.le_of_ble_eq_true rfl⟩ hP hQ hS rfl hl.1 rfl (Nat.le_of_ble_eq_true rfl) dL_law_441 (fun rx ux H locs hux hP hQ hS => ?_)
  obtain ⟨u1, E1⟩ := ux
  obtain ⟨e3, e1⟩ := hux
  have e3 : u1 = G := e3
  have hP : va_P D vwCl (wX h ca G E1) H := by rw [← e3]; exact hP
  refine lv_aload_n hx hb dL_law_444 rfl (lv_at hl 2 rfl) ?_
  refine lv_aload_n hx hb dL_law_445 rfl (lv_at hl 0 rfl) ?_
  refine lv_iload_n hx hb dL_law_446 rfl (lv_at hl 3 rfl) ?_
  refine nr_iconst (v := 1) hx hb dL_law_447 (by decide +kernel) ?_
  refine nr_iadd hx hb dL_law_448 ?_
  refine gl_sld hx hb hX hbl hS (by omega) hL dL_law_449 ?_
  refine gl_callM S J (rest := [.int rx]) (As := [.int (xs (i + 1))]) (n := 1) (mM_longest l D g cg (fun q => q ∈ adM g) M (xs (i + 1)) hM) (lw_V q314 q315 q316 q24 q317) (by decide +kernel) ⟨Nat.le_of_ble_eq_true rfl, Nat.le_of_ble_eq_true rfl⟩ ⟨Nat.le_of_ble_eq_true rfl, Nat.le_of_ble_eq_true rfl⟩ hQ hP hS rfl hl.1 rfl (Nat.le_of_ble_eq_true rfl) dL_law_450 (fun rm um H locs hum hQ hP hS => ?_)
  obtain ⟨⟨T2, e4⟩, e2⟩ := hum
  subst e4
  refine lv_icmp_eq (tgt := 537) hx hb dL_law_453 (by decide) (fun c1 => ?_) (fun c1 => ?_)
  · exact hgo _ _ _ _ _ (rel_T (hR) T2) hP hQ hS
  · exact absurd (by rw [e1, e2, lgA_eq hV]) c1
set_option maxHeartbeats 4000000 in
set_option maxRecDepth 100000 in
theorem law_empty {p : Program} {l : Launch} {e : Env} {s : State} {m : MethodId} {below : List Frame} {meth : Method} {c : Code} {b L : Nat} {xs : Nat → Int32} {D : va_G} {h g : Nat → Nat} {ca cg : Nat → ClassId} (hL : L ≤ 256) (C0 : lw_At p s m meth c b L xs) (J : LJ s D h g ca cg) {i : Nat} (hi : i + 4 ≤ L) {G : GG} {E : EE} {M : MM} (hR : rel G M) {H : Heap} {locs : List Loc} {ls : Array Slot} (hP : va_P D vwCl (wX h ca G E) H) (hQ : va_P D vwCl (wM g cg M) H) (hS : va_S (fun q : Nat => s.heap.size ≤ q) s.heap H locs) (hl : lv_has ls 4 [(0, .ref b), (1, .ref (h 0)), (2, .ref (g 0)), (3, .int (nI i))]) (hgo : ∀ (G : GG) (E : EE) (M : MM) (H : Heap) (locs : List Loc), rel G M → va_P D vwCl (wX h ca G E) H → va_P D vwCl (wM g cg M) H → va_S (fun q : Nat => s.heap.size ≤ q) s.heap H locs → W p l e room_1 s m #[Value.ref b] below meth c H locs 15 4890 (lw_Z below #[Value.ref b] s) (F0 m 537 ls [])) : W p l e room_1 s m #[Value.ref b] below meth c H locs 15 4890 (lw_Z below #[Value.ref b] s) (F0 m 458 ls []) := by
  obtain ⟨hx, hb, hr, hml, hown, hts, hX, hbl, hlocks, hgv⟩ := C0
  have hts : ∀ w ∈ lw_all, w.before #[Value.ref b] s = true := fun w hw => hts w (lw_all_tbl hw)
  have S : CallFix p m c code 4 s #[Value.ref b] lw_all R_law := ⟨hx, hb, hml, hown, hts⟩
  obtain ⟨hG, hM, hV⟩ := id hR
  have hcn : gCn G = mCn M := hV.1
  have hsi : gSi G = mLn M := hV.2.1
  refine lv_aload_n hx hb dL_law_458 rfl (lv_at hl 1 rfl) ?_
  refine lv_aload_n hx hb dL_law_459 rfl (lv_at hl 0 rfl) ?_
  refine lv_iload_n hx hb dL_law_460 rfl (lv_at hl 3 rfl) ?_
  refine nr_iconst (v := 1) hx hb dL_law_461 (by decide +kernel) ?_
  refine nr_iadd hx hb dL_law_462 ?_
  refine gl_sld hx hb hX hbl hS (by omega) hL dL_law_463 ?_
  refine gl_callX S J (rest := []) (As := [.int (xs (i + 1))]) (n := 1) (mX_empty l D h ca (fun q => q ∈ adX h) G E (xs (i + 1)) hG) (lw_V q185 q186 q187 q23 q188) (by decide +kernel) ⟨Nat.le_of_ble_eq_true rfl, Nat.le_of_ble_eq_true rfl⟩ ⟨Nat.le_of_ble_eq_true rfl, Nat.le_of_ble_eq_true rfl⟩ hP hQ hS rfl hl.1 rfl (Nat.le_of_ble_eq_true rfl) dL_law_464 (fun rx ux H locs hux hP hQ hS => ?_)
  obtain ⟨u1, E1⟩ := ux
  obtain ⟨e3, e1⟩ := hux
  have e3 : u1 = G := e3
  have hP : va_P D vwCl (wX h ca G E1) H := by rw [← e3]; exact hP
  refine lv_aload_n hx hb dL_law_467 rfl (lv_at hl 2 rfl) ?_
  refine lv_aload_n hx hb dL_law_468 rfl (lv_at hl 0 rfl) ?_
  refine lv_iload_n hx hb dL_law_469 rfl (lv_at hl 3 rfl) ?_
  refine nr_iconst (v := 1) hx hb dL_law_470 (by decide +kernel) ?_
  refine nr_iadd hx hb dL_law_471 ?_
  refine gl_sld hx hb hX hbl hS (by omega) hL dL_law_472 ?_
  refine gl_callM S J (rest := [.int rx]) (As := [.int (xs (i + 1))]) (n := 1) (mM_empty l D g cg (fun q => q ∈ adM g) M (xs (i + 1)) hM) (lw_V q318 q319 q320 q24 q321) (by decide +kernel) ⟨Nat.le_of_ble_eq_true rfl, Nat.le_of_ble_eq_true rfl⟩ ⟨Nat.le_of_ble_eq_true rfl, Nat.le_of_ble_eq_true rfl⟩ hQ hP hS rfl hl.1 rfl (Nat.le_of_ble_eq_true rfl) dL_law_473 (fun rm um H locs hum hQ hP hS => ?_)
  obtain ⟨⟨T2, e4⟩, e2⟩ := hum
  subst e4
  refine lv_icmp_eq (tgt := 537) hx hb dL_law_476 (by decide) (fun c1 => ?_) (fun c1 => ?_)
  · exact hgo _ _ _ _ _ (rel_T (hR) T2) hP hQ hS
  · exact absurd (by rw [e1, e2]; exact law_emp hR (xs (i + 1))) c1
set_option maxHeartbeats 4000000 in
set_option maxRecDepth 100000 in
theorem law_ways {p : Program} {l : Launch} {e : Env} {s : State} {m : MethodId} {below : List Frame} {meth : Method} {c : Code} {b L : Nat} {xs : Nat → Int32} {D : va_G} {h g : Nat → Nat} {ca cg : Nat → ClassId} (hL : L ≤ 256) (C0 : lw_At p s m meth c b L xs) (J : LJ s D h g ca cg) {i : Nat} (hi : i + 4 ≤ L) {G : GG} {E : EE} {M : MM} (hR : rel G M) {H : Heap} {locs : List Loc} {ls : Array Slot} (hP : va_P D vwCl (wX h ca G E) H) (hQ : va_P D vwCl (wM g cg M) H) (hS : va_S (fun q : Nat => s.heap.size ≤ q) s.heap H locs) (hl : lv_has ls 4 [(0, .ref b), (1, .ref (h 0)), (2, .ref (g 0)), (3, .int (nI i))]) (hgo : ∀ (G : GG) (E : EE) (M : MM) (H : Heap) (locs : List Loc), rel G M → va_P D vwCl (wX h ca G E) H → va_P D vwCl (wM g cg M) H → va_S (fun q : Nat => s.heap.size ≤ q) s.heap H locs → W p l e room_1 s m #[Value.ref b] below meth c H locs 15 4890 (lw_Z below #[Value.ref b] s) (F0 m 537 ls [])) : W p l e room_1 s m #[Value.ref b] below meth c H locs 15 4890 (lw_Z below #[Value.ref b] s) (F0 m 481 ls []) := by
  obtain ⟨hx, hb, hr, hml, hown, hts, hX, hbl, hlocks, hgv⟩ := C0
  have hts : ∀ w ∈ lw_all, w.before #[Value.ref b] s = true := fun w hw => hts w (lw_all_tbl hw)
  have S : CallFix p m c code 4 s #[Value.ref b] lw_all R_law := ⟨hx, hb, hml, hown, hts⟩
  obtain ⟨hG, hM, hV⟩ := id hR
  have hcn : gCn G = mCn M := hV.1
  have hsi : gSi G = mLn M := hV.2.1
  refine lv_aload_n hx hb dL_law_481 rfl (lv_at hl 1 rfl) ?_
  refine lv_aload_n hx hb dL_law_482 rfl (lv_at hl 0 rfl) ?_
  refine lv_iload_n hx hb dL_law_483 rfl (lv_at hl 3 rfl) ?_
  refine nr_iconst (v := 1) hx hb dL_law_484 (by decide +kernel) ?_
  refine nr_iadd hx hb dL_law_485 ?_
  refine gl_sld hx hb hX hbl hS (by omega) hL dL_law_486 ?_
  refine lv_aload_n hx hb dL_law_487 rfl (lv_at hl 0 rfl) ?_
  refine lv_iload_n hx hb dL_law_488 rfl (lv_at hl 3 rfl) ?_
  refine nr_iconst (v := 2) hx hb dL_law_489 (by decide +kernel) ?_
  refine nr_iadd hx hb dL_law_490 ?_
  refine gl_sld hx hb hX hbl hS (by omega) hL dL_law_491 ?_
  refine lv_aload_n hx hb dL_law_492 rfl (lv_at hl 0 rfl) ?_
  refine lv_iload_n hx hb dL_law_493 rfl (lv_at hl 3 rfl) ?_
  refine nr_iconst (v := 3) hx hb dL_law_494 (by decide +kernel) ?_
  refine nr_iadd hx hb dL_law_495 ?_
  refine gl_sld hx hb hX hbl hS (by omega) hL dL_law_496 ?_
  refine gl_callX S J (rest := []) (As := [.int (xs (i + 1)), .int (xs (i + 2)), .int (xs (i + 3))]) (n := 3) (mX_ways l D h ca (fun q => q ∈ adX h) G E (xs (i + 1)) (xs (i + 2)) (xs (i + 3)) hG) (lw_V q189 q190 q191 q23 q192) (by decide +kernel) ⟨Nat.le_of_ble_eq_true rfl, Nat.le_of_ble_eq_true rfl⟩ ⟨Nat.le_of_ble_eq_true rfl, Nat.le_of_ble_eq_true rfl⟩ hP hQ hS rfl hl.1 rfl (Nat.le_of_ble_eq_true rfl) dL_law_497 (fun rx ux H locs hux hP hQ hS => ?_)
  obtain ⟨u1, E1⟩ := ux
  obtain ⟨e3, e1⟩ := hux
  have e3 : u1 = G := e3
  have hP : va_P D vwCl (wX h ca G E1) H := by rw [← e3]; exact hP
  refine lv_aload_n hx hb dL_law_500 rfl (lv_at hl 2 rfl) ?_
  refine lv_aload_n hx hb dL_law_501 rfl (lv_at hl 0 rfl) ?_
  refine lv_iload_n hx hb dL_law_502 rfl (lv_at hl 3 rfl) ?_
  refine nr_iconst (v := 1) hx hb dL_law_503 (by decide +kernel) ?_
  refine nr_iadd hx hb dL_law_504 ?_
  refine gl_sld hx hb hX hbl hS (by omega) hL dL_law_505 ?_
  refine lv_aload_n hx hb dL_law_506 rfl (lv_at hl 0 rfl) ?_
  refine lv_iload_n hx hb dL_law_507 rfl (lv_at hl 3 rfl) ?_
  refine nr_iconst (v := 2) hx hb dL_law_508 (by decide +kernel) ?_
  refine nr_iadd hx hb dL_law_509 ?_
  refine gl_sld hx hb hX hbl hS (by omega) hL dL_law_510 ?_
  refine lv_aload_n hx hb dL_law_511 rfl (lv_at hl 0 rfl) ?_
  refine lv_iload_n hx hb dL_law_512 rfl (lv_at hl 3 rfl) ?_
  refine nr_iconst (v := 3) hx hb dL_law_513 (by decide +kernel) ?_
  refine nr_iadd hx hb dL_law_514 ?_
  refine gl_sld hx hb hX hbl hS (by omega) hL dL_law_515 ?_
  refine gl_callM S J (rest := [.int rx]) (As := [.int (xs (i + 1)), .int (xs (i + 2)), .int (xs (i + 3))]) (n := 3) (mM_ways l D g cg (fun q => q ∈ adM g) M (xs (i + 1)) (xs (i + 2)) (xs (i + 3)) hM) (lw_V q322 q323 q324 q24 q325) (by decide +kernel) ⟨Nat.le_of_ble_eq_true rfl, Nat.le_of_ble_eq_true rfl⟩ ⟨Nat.le_of_ble_eq_true rfl, Nat.le_of_ble_eq_true rfl⟩ hQ hP hS rfl hl.1 rfl (Nat.le_of_ble_eq_true rfl) dL_law_516 (fun rm um H locs hum hQ hP hS => ?_)
  obtain ⟨⟨T2, e4⟩, e2⟩ := hum
  subst e4
  refine lv_icmp_eq (tgt := 537) hx hb dL_law_519 (by decide) (fun c1 => ?_) (fun c1 => ?_)
  · exact hgo _ _ _ _ _ (rel_T (hR) T2) hP hQ hS
  · exact absurd (by rw [e1, e2, wayA_eq hV]) c1
set_option maxHeartbeats 4000000 in
set_option maxRecDepth 100000 in
theorem law_nextLetter {p : Program} {l : Launch} {e : Env} {s : State} {m : MethodId} {below : List Frame} {meth : Method} {c : Code} {b L : Nat} {xs : Nat → Int32} {D : va_G} {h g : Nat → Nat} {ca cg : Nat → ClassId} (hL : L ≤ 256) (C0 : lw_At p s m meth c b L xs) (J : LJ s D h g ca cg) {i : Nat} (hi : i + 4 ≤ L) {G : GG} {E : EE} {M : MM} (hR : rel G M) {H : Heap} {locs : List Loc} {ls : Array Slot} (hP : va_P D vwCl (wX h ca G E) H) (hQ : va_P D vwCl (wM g cg M) H) (hS : va_S (fun q : Nat => s.heap.size ≤ q) s.heap H locs) (hl : lv_has ls 4 [(0, .ref b), (1, .ref (h 0)), (2, .ref (g 0)), (3, .int (nI i))]) (hgo : ∀ (G : GG) (E : EE) (M : MM) (H : Heap) (locs : List Loc), rel G M → va_P D vwCl (wX h ca G E) H → va_P D vwCl (wM g cg M) H → va_S (fun q : Nat => s.heap.size ≤ q) s.heap H locs → W p l e room_1 s m #[Value.ref b] below meth c H locs 15 4890 (lw_Z below #[Value.ref b] s) (F0 m 537 ls [])) : W p l e room_1 s m #[Value.ref b] below meth c H locs 15 4890 (lw_Z below #[Value.ref b] s) (F0 m 524 ls []) := by
  obtain ⟨hx, hb, hr, hml, hown, hts, hX, hbl, hlocks, hgv⟩ := C0
  have hts : ∀ w ∈ lw_all, w.before #[Value.ref b] s = true := fun w hw => hts w (lw_all_tbl hw)
  have S : CallFix p m c code 4 s #[Value.ref b] lw_all R_law := ⟨hx, hb, hml, hown, hts⟩
  obtain ⟨hG, hM, hV⟩ := id hR
  have hcn : gCn G = mCn M := hV.1
  have hsi : gSi G = mLn M := hV.2.1
  refine lv_aload_n hx hb dL_law_524 rfl (lv_at hl 1 rfl) ?_
  refine gl_callX S J (rest := []) (As := []) (n := 0) (mX_nextLetter l D h ca (fun q => q ∈ adX h) G E  hG) (lw_V q193 q194 q195 q23 q196) (by decide +kernel) ⟨Nat.le_of_ble_eq_true rfl, Nat.le_of_ble_eq_true rfl⟩ ⟨Nat.le_of_ble_eq_true rfl, Nat.le_of_ble_eq_true rfl⟩ hP hQ hS rfl hl.1 rfl (Nat.le_of_ble_eq_true rfl) dL_law_525 (fun rx ux H locs hux hP hQ hS => ?_)
  obtain ⟨u1, E1⟩ := ux
  obtain ⟨e3, e1⟩ := hux
  have e3 : u1 = nextG G := e3
  subst e3
  have hP : va_P D vwCl (wX h ca (nextG G) E1) H := hP
  refine lv_aload_n hx hb dL_law_528 rfl (lv_at hl 2 rfl) ?_
  refine gl_callM S J (rest := [.int rx]) (As := []) (n := 0) (mM_nextLetter l D g cg (fun q => q ∈ adM g) M  hM) (lw_V q326 q327 q328 q24 q329) (by decide +kernel) ⟨Nat.le_of_ble_eq_true rfl, Nat.le_of_ble_eq_true rfl⟩ ⟨Nat.le_of_ble_eq_true rfl, Nat.le_of_ble_eq_true rfl⟩ hQ hP hS rfl hl.1 rfl (Nat.le_of_ble_eq_true rfl) dL_law_529 (fun rm um H locs hum hQ hP hS => ?_)
  obtain ⟨⟨T2, e4⟩, e2⟩ := hum
  subst e4
  refine lv_icmp_eq (tgt := 537) hx hb dL_law_532 (by decide) (fun c1 => ?_) (fun c1 => ?_)
  · exact hgo _ _ _ _ _ (rel_T (rel_next hR) T2) hP hQ hS
  · exact absurd (by rw [e1, e2, nxA_eq hV]) c1
set_option maxHeartbeats 4000000 in
set_option maxRecDepth 100000 in
theorem law_loop {p : Program} {l : Launch} {e : Env} {s : State} {m : MethodId} {below : List Frame} {meth : Method} {c : Code} {b L : Nat} {xs : Nat → Int32} {D : va_G} {h g : Nat → Nat} {ca cg : Nat → ClassId} (hL : L ≤ 256) (C0 : lw_At p s m meth c b L xs) (J : LJ s D h g ca cg) : ∀ (n i : Nat), i ≤ L → L + 1 ≤ i + n → ∀ (G : GG) (E : EE) (M : MM) (H : Heap) (locs : List Loc) (ls : Array Slot), rel G M → va_P D vwCl (wX h ca G E) H → va_P D vwCl (wM g cg M) H → va_S (fun q : Nat => s.heap.size ≤ q) s.heap H locs → lv_has ls 4 [(0, .ref b), (1, .ref (h 0)), (2, .ref (g 0)), (3, .int (nI i))] → W p l e room_1 s m #[Value.ref b] below meth c H locs 15 4890 (lw_Z below #[Value.ref b] s) (F0 m 18 ls []) := by
  obtain ⟨hx, hb, hr, hml, hown, hts, hX, hbl, hlocks, hgv⟩ := id C0
  have hbA : ¬ (fun q : Nat => s.heap.size ≤ q) b := Nat.not_le.mpr hbl
  intro n
  induction n with
  | zero => intro i h1 h2; exact absurd h2 (by omega)
  | succ n ih =>
    intro i h1 h2 G E M H locs ls hR hP hQ hS hl
    refine lv_iload_n hx hb dL_law_18 rfl (lv_at hl 3 rfl) ?_
    refine lv_aload_n hx hb dL_law_19 rfl (lv_at hl 0 rfl) ?_
    refine va_slen hx hb hX hbl hbA hS dL_law_20 ?_
    refine nr_top (y := nI L) rfl ?_
    refine nr_iconst (v := 4) hx hb dL_law_21 (by decide +kernel) ?_
    refine lv_isub hx hb dL_law_22 ?_
    refine lv_icmp_gt (tgt := 543) hx hb dL_law_23 (by decide) (fun c1 => ?_) (fun c1 => ?_)
    · refine lv_iconst (v := 1) hx hb dL_law_543 (by decide) ?_
      refine va_forget (fun q hq => hS.2.2 q hq) ?_
      refine W.widen (k := 600000) (n := 7290000) (Nat.le_of_ble_eq_true rfl) (Nat.le_of_ble_eq_true rfl) ?_
      exact lw_ret hx hb hr hlocks dL_law_544
    · have hi : i + 4 ≤ L := by
        rcases Nat.lt_or_ge L (i + 4) with z | z
        · exact absurd ((law_gt (by omega) (by omega)).mpr z) c1
        · exact z
      refine lv_aload_n hx hb dL_law_26 rfl (lv_at hl 0 rfl) ?_
      refine lv_iload_n hx hb dL_law_27 rfl (lv_at hl 3 rfl) ?_
      refine gl_sld hx hb hX hbl hS (by omega) hL dL_law_28 ?_
      refine lv_bipush (v := 31) hx hb dL_law_29 (by decide +kernel) ?_
      refine lv_iand hx hb dL_law_31 ?_
      obtain ⟨j, hj, ej⟩ := pk_andE (xs i) (m := 31) 5 (by decide +kernel)
      have hj : j < 32 := hj
      refine nr_top (y := nI j) ej ?_
      have hgo : ∀ (G : GG) (E : EE) (M : MM) (H : Heap) (locs : List Loc), rel G M → va_P D vwCl (wX h ca G E) H → va_P D vwCl (wM g cg M) H → va_S (fun q : Nat => s.heap.size ≤ q) s.heap H locs → W p l e room_1 s m #[Value.ref b] below meth c H locs 15 4890 (lw_Z below #[Value.ref b] s) (F0 m 537 ls []) := by
        intro G E M H locs hR hP hQ hS
        refine lv_iinc (v := nI (i + 4)) (lv' := [(3, .int (nI (i + 4))), (0, .ref b), (1, .ref (h 0)), (2, .ref (g 0))]) hx hb dL_law_537 hl (k := 3) rfl (nI_i4 _) (by decide) rfl (fun ls hl => ?_)
        refine lv_goto (tgt := 18) hx hb dL_law_540 (by decide) ?_
        exact ih (i + 4) hi (by omega) G E M H locs ls hR hP hQ hS (lv_sub hl [1, 2, 3, 0] rfl)
      by_cases h16 : 17 ≤ j
      · refine lv_tableOut (tgt := 537) hx hb dL_law_32 (Or.inr (by rw [nI_toInt (by omega)]; omega)) (by decide) ?_
        exact hgo G E M H locs hR hP hQ hS
      · rcases (show j = 0 ∨ j = 1 ∨ j = 2 ∨ j = 3 ∨ j = 4 ∨ j = 5 ∨ j = 6 ∨ j = 7 ∨ j = 8 ∨ j = 9 ∨ j = 10 ∨ j = 11 ∨ j = 12 ∨ j = 13 ∨ j = 14 ∨ j = 15 ∨ j = 16 by omega) with ej | ej | ej | ej | ej | ej | ej | ej | ej | ej | ej | ej | ej | ej | ej | ej | ej
        · subst ej
          refine lv_tableIn (off := 84) (tgt := 116) hx hb dL_law_32 (by decide +kernel) (by decide +kernel) (by decide +kernel) (by decide) ?_
          exact law_rule hL C0 J hi hR hP hQ hS hl hgo
        · subst ej
          refine lv_tableIn (off := 117) (tgt := 149) hx hb dL_law_32 (by decide +kernel) (by decide +kernel) (by decide +kernel) (by decide) ?_
          exact law_drop hL C0 J hi hR hP hQ hS hl hgo
        · subst ej
          refine lv_tableIn (off := 140) (tgt := 172) hx hb dL_law_32 (by decide +kernel) (by decide +kernel) (by decide +kernel) (by decide) ?_
          exact law_clear hL C0 J hi hR hP hQ hS hl hgo
        · subst ej
          refine lv_tableIn (off := 153) (tgt := 185) hx hb dL_law_32 (by decide +kernel) (by decide +kernel) (by decide +kernel) (by decide) ?_
          exact law_rules hL C0 J hi hR hP hQ hS hl hgo
        · subst ej
          refine lv_tableIn (off := 166) (tgt := 198) hx hb dL_law_32 (by decide +kernel) (by decide +kernel) (by decide +kernel) (by decide) ?_
          exact law_push hL C0 J hi hR hP hQ hS hl hgo
        · subst ej
          refine lv_tableIn (off := 189) (tgt := 221) hx hb dL_law_32 (by decide +kernel) (by decide +kernel) (by decide +kernel) (by decide) ?_
          exact law_pop hL C0 J hi hR hP hQ hS hl hgo
        · subst ej
          refine lv_tableIn (off := 202) (tgt := 234) hx hb dL_law_32 (by decide +kernel) (by decide +kernel) (by decide +kernel) (by decide) ?_
          exact law_write hL C0 J hi hR hP hQ hS hl hgo
        · subst ej
          refine lv_tableIn (off := 235) (tgt := 267) hx hb dL_law_32 (by decide +kernel) (by decide +kernel) (by decide +kernel) (by decide) ?_
          exact law_length hL C0 J hi hR hP hQ hS hl hgo
        · subst ej
          refine lv_tableIn (off := 248) (tgt := 280) hx hb dL_law_32 (by decide +kernel) (by decide +kernel) (by decide +kernel) (by decide) ?_
          exact law_accepts hL C0 J hi hR hP hQ hS hl hgo
        · subst ej
          refine lv_tableIn (off := 261) (tgt := 293) hx hb dL_law_32 (by decide +kernel) (by decide +kernel) (by decide +kernel) (by decide) ?_
          exact law_fits hL C0 J hi hR hP hQ hS hl hgo
        · subst ej
          refine lv_tableIn (off := 304) (tgt := 336) hx hb dL_law_32 (by decide +kernel) (by decide +kernel) (by decide +kernel) (by decide) ?_
          exact law_ends hL C0 J hi hR hP hQ hS hl hgo
        · subst ej
          refine lv_tableIn (off := 337) (tgt := 369) hx hb dL_law_32 (by decide +kernel) (by decide +kernel) (by decide +kernel) (by decide) ?_
          exact law_ruleFits hL C0 J hi hR hP hQ hS hl hgo
        · subst ej
          refine lv_tableIn (off := 380) (tgt := 412) hx hb dL_law_32 (by decide +kernel) (by decide +kernel) (by decide +kernel) (by decide) ?_
          exact law_stretches hL C0 J hi hR hP hQ hS hl hgo
        · subst ej
          refine lv_tableIn (off := 403) (tgt := 435) hx hb dL_law_32 (by decide +kernel) (by decide +kernel) (by decide +kernel) (by decide) ?_
          exact law_longest hL C0 J hi hR hP hQ hS hl hgo
        · subst ej
          refine lv_tableIn (off := 426) (tgt := 458) hx hb dL_law_32 (by decide +kernel) (by decide +kernel) (by decide +kernel) (by decide) ?_
          exact law_empty hL C0 J hi hR hP hQ hS hl hgo
        · subst ej
          refine lv_tableIn (off := 449) (tgt := 481) hx hb dL_law_32 (by decide +kernel) (by decide +kernel) (by decide +kernel) (by decide) ?_
          exact law_ways hL C0 J hi hR hP hQ hS hl hgo
        · subst ej
          refine lv_tableIn (off := 492) (tgt := 524) hx hb dL_law_32 (by decide +kernel) (by decide +kernel) (by decide +kernel) (by decide) ?_
          exact law_nextLetter hL C0 J hi hR hP hQ hS hl hgo
end
section
/-! the law's start: both objects are made, then its loop -/
set_option maxHeartbeats 4000000 in
set_option maxRecDepth 100000 in
theorem whole_start {p : Program} {e : Env} {s : State} {m : MethodId} {below : List Frame} {meth : Method} {c : Code} (l : Launch) {b L : Nat} {xs : Nat → Int32} (hL : L ≤ 256) (C0 : lw_At p s m meth c b L xs) : W p l e room_1 s m #[Value.ref b] below meth c s.heap [] 0 0 (lw_Z below #[Value.ref b] s) (entryFrame m ([Value.ref b] : List Value).toArray 4) := by
  obtain ⟨hx, hb, hr, hml, hown, hts0, hX, hbl, hlocks, hgv⟩ := id C0
  have hts : ∀ w ∈ lw_all, w.before #[Value.ref b] s = true := fun w hw => hts0 w (lw_all_tbl hw)
  have hA : ∀ q : Nat, s.heap.size ≤ q → (fun q : Nat => s.heap.size ≤ q) q := fun _ h => h
  obtain ⟨c0, iS0, hKn0⟩ := u_known (C := RX0) (T := TX0) (N := 12) (n := 12) hts in_X0 (hts _ q26)
  obtain ⟨c1, iS1, hKn1⟩ := u_known (C := RX1) (T := TX1) (N := 6) (n := 6) hts in_X1 (hts _ q198)
  obtain ⟨D, hKD⟩ : ∃ (D : va_G), ∀ (k : Nat) (q : vw_C), vwCl[k]? = some q → u_Kn s q.1 q.2.1 q.2.2 (D.1 k) (D.2 k) := by
    refine ⟨(fun k => if k = 0 then c0 else c1, fun k => if k = 0 then iS0 else iS1), ?_⟩
    intro k q hq
    match k, hq with
    | 0, hq => cases hq; exact hKn0
    | 1, hq => cases hq; exact hKn1
    | k + 2, hq => simp [vwCl] at hq
  have hS : va_S (fun q : Nat => s.heap.size ≤ q) s.heap s.heap [] := va_S.rf
  have hK : va_K D vwCl [] s := ⟨hKD, fun k q h => by simp at h⟩
  have hP : va_P D vwCl [] s.heap := fun k q h => by simp at h
  have hD : va_D (fun q : Nat => s.heap.size ≤ q) [] := ⟨fun i j p q h => by simp at h, fun k q h => by simp at h⟩
  have hl := lv_entry ([.ref b]) (n := 4) (Nat.le_of_ble_eq_true rfl)
  rw [lg_entry_eq]
  generalize (lg_sl ([.ref b]) ++ List.replicate (4 - (lg_sl ([.ref b])).length) Slot.unset).toArray = ls at hl ⊢
  have hl : lv_has ls 4 [(0, .ref b)] := hl
  refine va_new (ci := 0) (fs := [.null, .null, .null, .null, .null, .null, .null, .null, .null, .int 0, .int 0, .int 0]) (C := RX0) (T := TX0) (N := 12) hx hb hts in_X0 tyX0 tyX0_ok hown (hts _ q25) (hts _ q26) (hts _ q23) hK hP hD hS hA rfl (fun j hj => by rcases (show j = 0 ∨ j = 1 ∨ j = 2 ∨ j = 3 ∨ j = 4 ∨ j = 5 ∨ j = 6 ∨ j = 7 ∨ j = 8 ∨ j = 9 ∨ j = 10 ∨ j = 11 by omega) with rfl | rfl | rfl | rfl | rfl | rfl | rfl | rfl | rfl | rfl | rfl | rfl <;> rfl) (Nat.le_of_ble_eq_true rfl) (Nat.le_of_ble_eq_true rfl) dL_law_0 (fun x0 H hP hD hS => ?_)
  have hP : va_P D vwCl [(x0, .inr (0, [.null, .null, .null, .null, .null, .null, .null, .null, .null, .int 0, .int 0, .int 0]))] H := hP
  have hD : va_D (fun q : Nat => s.heap.size ≤ q) [(x0, .inr (0, [.null, .null, .null, .null, .null, .null, .null, .null, .null, .int 0, .int 0, .int 0]))] := hD
  refine W.cs (cells' := 1) (slots' := 12) rfl rfl ?_
  refine lv_dup hx hb dL_law_3 rfl ?_
  have hFc := va_free (wc := [(x0, .inr (0, [.null, .null, .null, .null, .null, .null, .null, .null, .null, .int 0, .int 0, .int 0]))]) hD hS hA [0] rfl
  have hDc := hD.weaken (B := va_A [(x0, .inr (0, [.null, .null, .null, .null, .null, .null, .null, .null, .null, .int 0, .int 0, .int 0]))] H.size) (fun k q hk _ => va_A.in hk)
  refine va_callv (va_runI (As := []) (rest := [.ref x0]) ⟨hx, hb, hml, hown, hts⟩ (mX_init l D (va_A [(x0, .inr (0, [.null, .null, .null, .null, .null, .null, .null, .null, .null, .int 0, .int 0, .int 0]))] H.size) x0) (cwI 0 hts (lw_meth q29) rfl rfl rfl (hts _ q23) (hts _ q27) (hts _ q28) rfl (by decide +kernel) ⟨Nat.le_of_ble_eq_true rfl, Nat.le_of_ble_eq_true rfl⟩) ⟨fun a U g mk q => by obtain ⟨q0, q1, qP, qK, qD⟩ := q; exact ⟨q0, q1, qP, va_K.moved (u := U) (U := U.calling g mk a) (Vm.Alike.refl U.vm) qK, qD⟩, fun U hU hW => ⟨rfl, fun q hq => Or.inr (by rw [hU] at hq; exact hq), by rw [hU]; exact hP, va_K.moved hW.alike hK, hDc⟩⟩ rfl rfl hl.1 rfl (lv_room (Nat.le_of_ble_eq_true rfl)) dL_law_4 ⟨Nat.le_of_ble_eq_true rfl, Nat.le_of_ble_eq_true rfl⟩) hS (fun q _ h => hFc q h) hFc (fun u t H1 locs ht hvm hw hB hz1 hk1 hS => ?_)
  obtain ⟨h, ca⟩ := u
  obtain ⟨hP1, hK1, hD1⟩ := hB
  have hw : h 0 = x0 := hw
  have hP1 : va_P D vwCl (wX h ca G0 nilF) t.heap := hP1
  have hD1 : va_D _ (wX h ca G0 nilF) := hD1
  rw [ht] at hP1
  have hKX : va_K D vwCl (tX ca) s := va_K.moved hvm.symm hK1
  obtain ⟨hP, hD⟩ := va_join (wr := []) (w1 := wX h ca G0 nilF) hP hD [0] [] rfl rfl (by decide) (by decide) hk1 hFc hP1 hD1
  have hP : va_P D vwCl (wX h ca G0 nilF) H1 := hP
  have hD : va_D (fun q : Nat => s.heap.size ≤ q) (wX h ca G0 nilF) := hD
  refine W.cs (cells' := 10) (slots' := 4447) rfl rfl ?_
  refine lv_astore_n (lv' := [(1, .ref x0), (0, .ref b)]) hx hb dL_law_7 rfl hl (by decide) rfl (fun ls hl => ?_)
  rw [← hw] at hl
  refine va_new (ci := 1) (fs := [.int 0, .null, .null, .int 0, .null, .null]) (C := RX1) (T := TX1) (N := 6) hx hb hts in_X1 tyX1 tyX1_ok hown (hts _ q197) (hts _ q198) (hts _ q24) hK hP hD hS hA rfl (fun j hj => by rcases (show j = 0 ∨ j = 1 ∨ j = 2 ∨ j = 3 ∨ j = 4 ∨ j = 5 by omega) with rfl | rfl | rfl | rfl | rfl | rfl <;> rfl) (Nat.le_of_ble_eq_true rfl) (Nat.le_of_ble_eq_true rfl) dL_law_8 (fun y0 H hP hD hS => ?_)
  refine W.cs (cells' := 11) (slots' := 4453) rfl rfl ?_
  refine lv_dup hx hb dL_law_11 rfl ?_
  have hPc := hP.sub (ws' := [(y0, .inr (1, [.int 0, .null, .null, .int 0, .null, .null]))]) [10] rfl
  have hDs := hD.sub (ws' := [(y0, .inr (1, [.int 0, .null, .null, .int 0, .null, .null]))]) [10] (by decide) rfl
  have hFc := va_free (wc := [(y0, .inr (1, [.int 0, .null, .null, .int 0, .null, .null]))]) hD hS hA [10] rfl
  have hDc := hDs.weaken (B := va_A [(y0, .inr (1, [.int 0, .null, .null, .int 0, .null, .null]))] H.size) (fun k q hk _ => va_A.in hk)
  refine va_callv (va_runI (As := []) (rest := [.ref y0]) ⟨hx, hb, hml, hown, hts⟩ (mM_init l D (va_A [(y0, .inr (1, [.int 0, .null, .null, .int 0, .null, .null]))] H.size) y0) (cwI 0 hts (lw_meth q201) rfl rfl rfl (hts _ q24) (hts _ q199) (hts _ q200) rfl (by decide +kernel) ⟨Nat.le_of_ble_eq_true rfl, Nat.le_of_ble_eq_true rfl⟩) ⟨fun a U g mk q => by obtain ⟨q0, q1, qP, qK, qD⟩ := q; exact ⟨q0, q1, qP, va_K.moved (u := U) (U := U.calling g mk a) (Vm.Alike.refl U.vm) qK, qD⟩, fun U hU hW => ⟨rfl, fun q hq => Or.inr (by rw [hU] at hq; exact hq), by rw [hU]; exact hPc, va_K.moved hW.alike hK, hDc⟩⟩ rfl rfl hl.1 rfl (lv_room (Nat.le_of_ble_eq_true rfl)) dL_law_12 ⟨Nat.le_of_ble_eq_true rfl, Nat.le_of_ble_eq_true rfl⟩) hS (fun q _ h => hFc q h) hFc (fun u t H2 locs ht hvm hw2 hB hz2 hk2 hS => ?_)
  obtain ⟨g, cg⟩ := u
  obtain ⟨hP2, hK2, hD2⟩ := hB
  have hw2 : g 0 = y0 := hw2
  have hP2 : va_P D vwCl (wM g cg M0) t.heap := hP2
  have hD2 : va_D _ (wM g cg M0) := hD2
  rw [ht] at hP2
  have hKM : va_K D vwCl (tM cg) s := va_K.moved hvm.symm hK2
  obtain ⟨hP, hD⟩ := va_join (wr := wX h ca G0 nilF) (w1 := wM g cg M0) hP hD [10] [0, 1, 2, 3, 4, 5, 6, 7, 8, 9] rfl rfl (by decide) (by decide) hk2 hFc hP2 hD2
  refine W.cs (cells' := 15) (slots' := 4890) rfl rfl ?_
  refine lv_astore_n (lv' := [(2, .ref y0), (1, .ref (h 0)), (0, .ref b)]) hx hb dL_law_15 rfl hl (by decide) rfl (fun ls hl => ?_)
  rw [← hw2] at hl
  refine nr_iconst (v := 0) hx hb dL_law_16 (by decide +kernel) ?_
  refine lv_istore_n (lv' := [(3, .int (nI 0)), (2, .ref (g 0)), (1, .ref (h 0)), (0, .ref b)]) hx hb dL_law_17 rfl hl (by decide) rfl (fun ls hl => ?_)
  have hPX : va_P D vwCl (wX h ca G0 nilF) H2 := hP.sub [0, 1, 2, 3, 4, 5, 6, 7, 8, 9] rfl
  have hPM : va_P D vwCl (wM g cg M0) H2 := hP.sub [10, 11, 12, 13, 14] rfl
  exact law_loop hL C0 (LJ_of hKX hKM hD) (L + 1) 0 (Nat.zero_le L) (by omega) G0 nilF M0 H2 locs ls rel_0 hPX hPM hS (lv_sub hl [3, 2, 1, 0] rfl)
end
section
set_option maxHeartbeats 4000000 in
theorem lw_walk (l : Launch) (b : Addr) (xs : List Int32) : MetFree l x (headSpec (Jvm.Cond.code x code maxLocals ret :: tables_1) room_1) (lw_P b xs) (fun _ _ _ _ _ => True) lw_Q := by
  refine MetFree.of_bodyS (code := code) (maxLocals := maxLocals) (ret := ret) (by decide) ?_ ?_
  · intro args s m h hn
    obtain ⟨meth, c, h1, h2, h3, h4, h5, h6, -, -⟩ := Cond.code_spec hn (atoms_spec (ws := Jvm.Cond.code x code maxLocals ret :: tables_1) h _ List.mem_cons_self)
    exact ⟨meth, c, h1, h2, h3, h4, h5, h6⟩
  · intro p e s m args below meth c s₁ B hml0 hP _
    obtain ⟨rfl, hx, hbd, hgv⟩ := hP
    obtain ⟨scr, harrAt, hlist, hof, hsmall⟩ := hx
    obtain ⟨hcb, hkn, -, -⟩ := State.arrayAt?_spec harrAt
    have hown : s.vm.findClass R_law = some m.cls := findClass_of_methodNamed B.named
    have hts0 : ∀ c ∈ (Jvm.Cond.code x code maxLocals ret :: tables_1), c.before #[Value.ref b] s = true := atoms_spec (ws := Jvm.Cond.code x code maxLocals ret :: tables_1) B.pre
    have hts : ∀ w ∈ lw_tbl, w.before #[Value.ref b] s = true := k2_hts_sels lw_privs (fun w hw => hts0 w (List.mem_cons_of_mem _ hw)) lw_privs_ok
    have hml : c.maxLocals = 4 := B.maxLocals_eq (hts0 _ List.mem_cons_self)
    have X₀ : Stand p l e room_1 s m #[Value.ref b] below meth c s₁ [] 0 0 := Stand.of_body B
    have hh0 : s₁.heap = s.heap := by rw [B.state]; rfl
    have hsz : scr.slots.size = xs.length := by rw [← Array.length_toList, hlist, List.length_map]
    have hval : ∀ j : Nat, j < xs.length → scr.slots[j]? = some (.int (xs.getD j 0)) := fun j hj => by
      rw [← Array.getElem?_toList, hlist]
      simp [hj]
    have hbl : b < s.heap.size := (Array.getElem?_eq_some_iff.mp hcb).1
    have hX : va_X b xs.length (fun j => xs.getD j 0) s s.heap := ⟨scr, hcb, hof, hkn, hsz, hval⟩
    have K : W p l e room_1 s m #[Value.ref b] below meth c s₁.heap [] 0 0 (lw_Z below #[Value.ref b] s) (entryFrame m ([Value.ref b] : List Value).toArray 4) := by
      rw [hh0]
      exact whole_start l hbd ⟨B.exec, B.bytes, B.returns, hml, hown, hts, hX, hbl, B.notSynchronized, hgv⟩
    obtain ⟨t, a1, o, b1, b2, b3⟩ := K s₁ rfl X₀
    exact ⟨t, o, a1, b1, b2, b3⟩
theorem lw_pre_spec {args : Array Value} {s : State} (h : (Jvm.Cond.and given_1 narrow_1).before args s = true) (hr : rest_1_c.before args s = true) : ∃ (b : Addr) (xs : List Int32), lw_P b xs args s := by
  have hs := flat_of_before _ h
  have hq := flat_of_before _ hr
  have hc : (Cond.count 1).before args s = true := hs _ (by decide +kernel)
  have harr : (Cond.arrayOf (.arg 0) .int).before args s = true := hs _ (by decide +kernel)
  have hle : (Cond.le (.length (.arg 0)) (.int 256)).before args s = true := hs _ (by decide +kernel)
  have hlen : (Cond.isInt (.length (.arg 0))).before args s = true := hq _ (by decide +kernel)
  have hall : (Cond.all (.arg 0) (.isInt (.elem (.arg 0) (.index 0)))).before args s = true := hq _ (by decide +kernel)
  obtain ⟨b, xs, hb, hx⟩ := State.ints_of_pre rfl harr hlen hall
  have hsm : xs.length < 2 ^ 31 := hx.choose_spec.2.2.2
  have hev : (Term.length (.arg 0)).eval args s none [] s = some (.int xs.length.toInt32) := hx.length_eval hb
  have hv := Cond.le_ints hev (show (Term.int 256).eval args s none [] s = some (.int 256) from rfl)
  have hd : xs.length.toInt32 ≤ 256 := by
    simpa [Cond.before, Cond.holds, hv] using hle
  have hN : xs.length ≤ 256 := (Int32.ofNat_le_ofNat hsm (by decide)).mp (show Int32.ofNat xs.length ≤ Int32.ofNat 256 from hd)
  exact ⟨b, xs, Cond.one_arg hc (show args[0]? = some (.ref b) from hb), hx, hN, h⟩
theorem lw_comes (l : Launch) : Comes l x (Jvm.Cond.code x code maxLocals ret :: tables_1) room_1 (fun tb e args s => Calls_1 tb e args s ∧ rest_1 tb e args s ∧ Pre_1 tb e args s)
    (fun _ _ args s o t => lw_Q args s o t) := by
  intro p e ha hc hk s m args below hf hfit hheap happ hpre
  obtain ⟨b, xs, hP⟩ := lw_pre_spec hpre.2.2 hpre.2.1
  obtain ⟨k, o, h1, h2, h3, hQ⟩ := lw_walk l b xs p e ha hc hk s m args below hf ((Spec.applies_iff_loose hf).mp happ).1 hP trivial
  exact ⟨k, o, h1, h2, h3, hQ⟩
theorem lw_frame {s t : State} {o : Outcome} {args : Array Value} (h : Framed s o t [] 600000 7290000) :
    Framed s o t (fieldLocs frame_1_writes args s ++ arrayLocs frame_1_arrays args s ++ staticLocs frame_1_statics s) 600000 7290000 := h
theorem lw_limb (L : Cond) (hL : ∀ (args : Array Value) (s t : State), L.after args s (.returned (some (.int 1))) t = true) :
    ArmFor flags0 classFile x code maxLocals ret World_1 tables_1 room_1 Calls_1 rest_1 Pre_1
      (fun tb e a s o t => postC L tb e a s o t ∧ Framed s o t (fieldLocs frame_1_writes a s ++ arrayLocs frame_1_arrays a s ++ staticLocs frame_1_statics s) 600000 7290000) := by
  intro l _ _ _ p e ha hc hk s m args below hf hfit hheap happ hpre
  obtain ⟨k, o, h1, h2, h3, rfl, hF⟩ := lw_comes l p e ha hc hk s m args below hf hfit hheap happ hpre
  exact ⟨k, _, h1, h2, h3, hL args s _, lw_frame hF⟩
theorem i_vc : Claimed_1_1 ∧ Claimed_1_2 := ⟨lw_limb limb_1_1 (fun args s t => by simp [limb_1_1, Cond.after, Cond.holds, Cond.value]), lw_limb limb_1_2 (fun args s t => Cond.after_iff.mpr (by
  first | (rw [show limb_1_2 = Cond.eq .result (.int 1) from rfl, Cond.eq_ints (x := 1) (y := 1) rfl rfl]; simp; done) | (simp [limb_1_2, Cond.value, Term.eval]; done)))⟩
end
