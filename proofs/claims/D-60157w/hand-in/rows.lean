section
def lw_okq (q : MethodName × Nat) : Prop := (q.1.cls ≠ "java/lang/invoke/MethodHandle" ∧ q.1.cls ≠ "java/lang/invoke/VarHandle") ∧ Cond.instantiable q.1.cls q.2 ∈ tables_1 ∧ Cond.privateMethod q.1 ∈ tables_1 ∧ Cond.instanceMethod q.1 ∈ tables_1
set_option maxRecDepth 100000
theorem lw_t1 {w : Cond} (h : w ∈ tables_1_1) : w ∈ tables_1 := List.mem_append_left _ h
theorem lw_t2 {w : Cond} (h : w ∈ tables_1_2) : w ∈ tables_1 := List.mem_append_right _ h
theorem lw_p0 : lw_okq (⟨"CodeBreaker", "badCode", "(I)Z"⟩, 18) := ⟨⟨by decide +kernel, by decide +kernel⟩, lw_t1 (List.mem_of_getElem? (i := 4) rfl), lw_t1 (List.mem_of_getElem? (i := 76) rfl), lw_t1 (List.mem_of_getElem? (i := 77) rfl)⟩
theorem lw_p1 : lw_okq (⟨"CodeBreaker", "answerTo", "(II)I"⟩, 18) := ⟨⟨by decide +kernel, by decide +kernel⟩, lw_t1 (List.mem_of_getElem? (i := 4) rfl), lw_t1 (List.mem_of_getElem? (i := 80) rfl), lw_t1 (List.mem_of_getElem? (i := 81) rfl)⟩
theorem lw_p2 : lw_okq (⟨"CodeBreaker", "weigh", "(II)V"⟩, 18) := ⟨⟨by decide +kernel, by decide +kernel⟩, lw_t1 (List.mem_of_getElem? (i := 4) rfl), lw_t1 (List.mem_of_getElem? (i := 88) rfl), lw_t1 (List.mem_of_getElem? (i := 89) rfl)⟩
theorem lw_p3 : lw_okq (⟨"CodeBreaker", "countPossible", "()I"⟩, 18) := ⟨⟨by decide +kernel, by decide +kernel⟩, lw_t1 (List.mem_of_getElem? (i := 4) rfl), lw_t1 (List.mem_of_getElem? (i := 92) rfl), lw_t1 (List.mem_of_getElem? (i := 93) rfl)⟩
theorem lw_p4 : lw_okq (⟨"CodeBreaker", "partBy", "(I)V"⟩, 18) := ⟨⟨by decide +kernel, by decide +kernel⟩, lw_t1 (List.mem_of_getElem? (i := 4) rfl), lw_t1 (List.mem_of_getElem? (i := 120) rfl), lw_t1 (List.mem_of_getElem? (i := 121) rfl)⟩
theorem lw_p5 : lw_okq (⟨"CodeBreaker", "bestBy", "(Z)I"⟩, 18) := ⟨⟨by decide +kernel, by decide +kernel⟩, lw_t1 (List.mem_of_getElem? (i := 4) rfl), lw_t1 (List.mem_of_getElem? (i := 136) rfl), lw_t1 (List.mem_of_getElem? (i := 137) rfl)⟩
theorem lw_p6 : lw_okq (⟨"CodeBreaker", "needBy", "(Z)I"⟩, 18) := ⟨⟨by decide +kernel, by decide +kernel⟩, lw_t1 (List.mem_of_getElem? (i := 4) rfl), lw_t1 (List.mem_of_getElem? (i := 149) rfl), lw_t1 (List.mem_of_getElem? (i := 150) rfl)⟩
theorem lw_p7 : lw_okq (⟨"CodeBreaker", "listFew", "()V"⟩, 18) := ⟨⟨by decide +kernel, by decide +kernel⟩, lw_t1 (List.mem_of_getElem? (i := 4) rfl), lw_t1 (List.mem_of_getElem? (i := 153) rfl), lw_t1 (List.mem_of_getElem? (i := 154) rfl)⟩
theorem lw_p8 : lw_okq (⟨"CodeBreaker", "findNeeded", "(Z)V"⟩, 18) := ⟨⟨by decide +kernel, by decide +kernel⟩, lw_t1 (List.mem_of_getElem? (i := 4) rfl), lw_t1 (List.mem_of_getElem? (i := 157) rfl), lw_t1 (List.mem_of_getElem? (i := 158) rfl)⟩
theorem lw_p9 : lw_okq (⟨"CodeBreaker", "isOf", "(II)Z"⟩, 18) := ⟨⟨by decide +kernel, by decide +kernel⟩, lw_t1 (List.mem_of_getElem? (i := 4) rfl), lw_t1 (List.mem_of_getElem? (i := 161) rfl), lw_t1 (List.mem_of_getElem? (i := 162) rfl)⟩
theorem lw_p10 : lw_okq (⟨"CodeBreaker", "neededWith", "(II)I"⟩, 18) := ⟨⟨by decide +kernel, by decide +kernel⟩, lw_t1 (List.mem_of_getElem? (i := 4) rfl), lw_t1 (List.mem_of_getElem? (i := 165) rfl), lw_t1 (List.mem_of_getElem? (i := 166) rfl)⟩
theorem lw_p11 : lw_okq (⟨"CodeBreakerModel", "compare", "(II)I"⟩, 11) := ⟨⟨by decide +kernel, by decide +kernel⟩, lw_t1 (List.mem_of_getElem? (i := 184) rfl), lw_t1 (List.mem_of_getElem? (i := 190) rfl), lw_t1 (List.mem_of_getElem? (i := 191) rfl)⟩
theorem lw_p12 : lw_okq (⟨"CodeBreakerModel", "digitOf", "(II)I"⟩, 11) := ⟨⟨by decide +kernel, by decide +kernel⟩, lw_t1 (List.mem_of_getElem? (i := 184) rfl), lw_t1 (List.mem_of_getElem? (i := 194) rfl), lw_t1 (List.mem_of_getElem? (i := 195) rfl)⟩
theorem lw_p13 : lw_okq (⟨"CodeBreakerModel", "times", "(II)I"⟩, 11) := ⟨⟨by decide +kernel, by decide +kernel⟩, lw_t1 (List.mem_of_getElem? (i := 184) rfl), lw_t1 (List.mem_of_getElem? (i := 198) rfl), lw_t1 (List.mem_of_getElem? (i := 199) rfl)⟩
theorem lw_p14 : lw_okq (⟨"CodeBreakerModel", "isCode", "(I)Z"⟩, 11) := ⟨⟨by decide +kernel, by decide +kernel⟩, lw_t1 (List.mem_of_getElem? (i := 184) rfl), lw_t2 (List.mem_of_getElem? (i := 4) rfl), lw_t2 (List.mem_of_getElem? (i := 5) rfl)⟩
theorem lw_p15 : lw_okq (⟨"CodeBreakerModel", "answerTo", "(II)I"⟩, 11) := ⟨⟨by decide +kernel, by decide +kernel⟩, lw_t1 (List.mem_of_getElem? (i := 184) rfl), lw_t2 (List.mem_of_getElem? (i := 8) rfl), lw_t2 (List.mem_of_getElem? (i := 9) rfl)⟩
def lw_privs_1 : List (MethodName × Nat) := [(⟨"CodeBreaker", "badCode", "(I)Z"⟩, 18), (⟨"CodeBreaker", "answerTo", "(II)I"⟩, 18), (⟨"CodeBreaker", "weigh", "(II)V"⟩, 18), (⟨"CodeBreaker", "countPossible", "()I"⟩, 18), (⟨"CodeBreaker", "partBy", "(I)V"⟩, 18), (⟨"CodeBreaker", "bestBy", "(Z)I"⟩, 18), (⟨"CodeBreaker", "needBy", "(Z)I"⟩, 18), (⟨"CodeBreaker", "listFew", "()V"⟩, 18), (⟨"CodeBreaker", "findNeeded", "(Z)V"⟩, 18), (⟨"CodeBreaker", "isOf", "(II)Z"⟩, 18), (⟨"CodeBreaker", "neededWith", "(II)I"⟩, 18), (⟨"CodeBreakerModel", "compare", "(II)I"⟩, 11), (⟨"CodeBreakerModel", "digitOf", "(II)I"⟩, 11), (⟨"CodeBreakerModel", "times", "(II)I"⟩, 11), (⟨"CodeBreakerModel", "isCode", "(I)Z"⟩, 11), (⟨"CodeBreakerModel", "answerTo", "(II)I"⟩, 11)]
theorem lw_r1 : ∀ q ∈ lw_privs_1, lw_okq q := List.forall_mem_cons.mpr ⟨lw_p0, List.forall_mem_cons.mpr ⟨lw_p1, List.forall_mem_cons.mpr ⟨lw_p2, List.forall_mem_cons.mpr ⟨lw_p3, List.forall_mem_cons.mpr ⟨lw_p4, List.forall_mem_cons.mpr ⟨lw_p5, List.forall_mem_cons.mpr ⟨lw_p6, List.forall_mem_cons.mpr ⟨lw_p7, List.forall_mem_cons.mpr ⟨lw_p8, List.forall_mem_cons.mpr ⟨lw_p9, List.forall_mem_cons.mpr ⟨lw_p10, List.forall_mem_cons.mpr ⟨lw_p11, List.forall_mem_cons.mpr ⟨lw_p12, List.forall_mem_cons.mpr ⟨lw_p13, List.forall_mem_cons.mpr ⟨lw_p14, List.forall_mem_cons.mpr ⟨lw_p15, fun _ h => absurd h List.not_mem_nil⟩⟩⟩⟩⟩⟩⟩⟩⟩⟩⟩⟩⟩⟩⟩⟩
theorem lw_p16 : lw_okq (⟨"CodeBreakerModel", "countPossible", "(I)I"⟩, 11) := ⟨⟨by decide +kernel, by decide +kernel⟩, lw_t1 (List.mem_of_getElem? (i := 184) rfl), lw_t2 (List.mem_of_getElem? (i := 16) rfl), lw_t2 (List.mem_of_getElem? (i := 17) rfl)⟩
theorem lw_p17 : lw_okq (⟨"CodeBreakerModel", "agrees", "(II)Z"⟩, 11) := ⟨⟨by decide +kernel, by decide +kernel⟩, lw_t1 (List.mem_of_getElem? (i := 184) rfl), lw_t2 (List.mem_of_getElem? (i := 20) rfl), lw_t2 (List.mem_of_getElem? (i := 21) rfl)⟩
theorem lw_p18 : lw_okq (⟨"CodeBreakerModel", "part", "(I)V"⟩, 11) := ⟨⟨by decide +kernel, by decide +kernel⟩, lw_t1 (List.mem_of_getElem? (i := 184) rfl), lw_t2 (List.mem_of_getElem? (i := 48) rfl), lw_t2 (List.mem_of_getElem? (i := 49) rfl)⟩
theorem lw_p19 : lw_okq (⟨"CodeBreakerModel", "worstOf", "(I)I"⟩, 11) := ⟨⟨by decide +kernel, by decide +kernel⟩, lw_t1 (List.mem_of_getElem? (i := 184) rfl), lw_t2 (List.mem_of_getElem? (i := 56) rfl), lw_t2 (List.mem_of_getElem? (i := 57) rfl)⟩
theorem lw_p20 : lw_okq (⟨"CodeBreakerModel", "weightOf", "(I)I"⟩, 11) := ⟨⟨by decide +kernel, by decide +kernel⟩, lw_t1 (List.mem_of_getElem? (i := 184) rfl), lw_t2 (List.mem_of_getElem? (i := 64) rfl), lw_t2 (List.mem_of_getElem? (i := 65) rfl)⟩
theorem lw_p21 : lw_okq (⟨"CodeBreakerModel", "best", "(Z)I"⟩, 11) := ⟨⟨by decide +kernel, by decide +kernel⟩, lw_t1 (List.mem_of_getElem? (i := 184) rfl), lw_t2 (List.mem_of_getElem? (i := 72) rfl), lw_t2 (List.mem_of_getElem? (i := 73) rfl)⟩
theorem lw_p22 : lw_okq (⟨"CodeBreakerModel", "solve", "(Z)I"⟩, 11) := ⟨⟨by decide +kernel, by decide +kernel⟩, lw_t1 (List.mem_of_getElem? (i := 184) rfl), lw_t2 (List.mem_of_getElem? (i := 84) rfl), lw_t2 (List.mem_of_getElem? (i := 85) rfl)⟩
theorem lw_p23 : lw_okq (⟨"CodeBreakerModel", "canBeDone", "(IIZ)Z"⟩, 11) := ⟨⟨by decide +kernel, by decide +kernel⟩, lw_t1 (List.mem_of_getElem? (i := 184) rfl), lw_t2 (List.mem_of_getElem? (i := 88) rfl), lw_t2 (List.mem_of_getElem? (i := 89) rfl)⟩
theorem lw_p24 : lw_okq (⟨"CodeBreakerModel", "isIn", "(II)Z"⟩, 11) := ⟨⟨by decide +kernel, by decide +kernel⟩, lw_t1 (List.mem_of_getElem? (i := 184) rfl), lw_t2 (List.mem_of_getElem? (i := 92) rfl), lw_t2 (List.mem_of_getElem? (i := 93) rfl)⟩
theorem lw_p25 : lw_okq (⟨"CodeBreakerModel", "leaves", "(III)Z"⟩, 11) := ⟨⟨by decide +kernel, by decide +kernel⟩, lw_t1 (List.mem_of_getElem? (i := 184) rfl), lw_t2 (List.mem_of_getElem? (i := 96) rfl), lw_t2 (List.mem_of_getElem? (i := 97) rfl)⟩
theorem lw_p26 : lw_okq (⟨"CodeBreakerModel", "partOf", "(III)I"⟩, 11) := ⟨⟨by decide +kernel, by decide +kernel⟩, lw_t1 (List.mem_of_getElem? (i := 184) rfl), lw_t2 (List.mem_of_getElem? (i := 100) rfl), lw_t2 (List.mem_of_getElem? (i := 101) rfl)⟩
def lw_privs_2 : List (MethodName × Nat) := [(⟨"CodeBreakerModel", "countPossible", "(I)I"⟩, 11), (⟨"CodeBreakerModel", "agrees", "(II)Z"⟩, 11), (⟨"CodeBreakerModel", "part", "(I)V"⟩, 11), (⟨"CodeBreakerModel", "worstOf", "(I)I"⟩, 11), (⟨"CodeBreakerModel", "weightOf", "(I)I"⟩, 11), (⟨"CodeBreakerModel", "best", "(Z)I"⟩, 11), (⟨"CodeBreakerModel", "solve", "(Z)I"⟩, 11), (⟨"CodeBreakerModel", "canBeDone", "(IIZ)Z"⟩, 11), (⟨"CodeBreakerModel", "isIn", "(II)Z"⟩, 11), (⟨"CodeBreakerModel", "leaves", "(III)Z"⟩, 11), (⟨"CodeBreakerModel", "partOf", "(III)I"⟩, 11)]
theorem lw_r2 : ∀ q ∈ lw_privs_2, lw_okq q := List.forall_mem_cons.mpr ⟨lw_p16, List.forall_mem_cons.mpr ⟨lw_p17, List.forall_mem_cons.mpr ⟨lw_p18, List.forall_mem_cons.mpr ⟨lw_p19, List.forall_mem_cons.mpr ⟨lw_p20, List.forall_mem_cons.mpr ⟨lw_p21, List.forall_mem_cons.mpr ⟨lw_p22, List.forall_mem_cons.mpr ⟨lw_p23, List.forall_mem_cons.mpr ⟨lw_p24, List.forall_mem_cons.mpr ⟨lw_p25, List.forall_mem_cons.mpr ⟨lw_p26, fun _ h => absurd h List.not_mem_nil⟩⟩⟩⟩⟩⟩⟩⟩⟩⟩⟩
def lw_privs : List (MethodName × Nat) := lw_privs_1 ++ (lw_privs_2)
def lw_tbl : List Cond := k2_sels lw_privs ++ tables_1
theorem lw_privs_ok : ∀ q ∈ lw_privs, lw_okq q := by
  show ∀ q ∈ lw_privs_1 ++ (lw_privs_2), lw_okq q
  exact List.forall_mem_append.mpr ⟨lw_r1, lw_r2⟩
def lw_all : List Cond := lw_tbl.filter goodWord
theorem lw_w {w : Cond} (i : Nat) (h : lw_tbl[i]? = some w) (g : goodWord w = true) : w ∈ lw_all := List.mem_filter.mpr ⟨List.mem_of_getElem? h, g⟩
theorem lw_all_tbl {w : Cond} (h : w ∈ lw_all) : w ∈ lw_tbl := (List.mem_filter.mp h).1
theorem lw_self : GoodIn lw_all lw_all := fun w h => ⟨h, good_of_word (List.mem_filter.mp h).2⟩
theorem lw_in (ws : List Cond) (ps : List Nat) (hp : ws = ps.filterMap (fun i => lw_tbl[i]?)) (hg : ws.all goodWord = true) : ∀ w ∈ ws, w ∈ lw_all := by
  intro w h
  have h1 := List.all_eq_true.mp hg w h
  rw [hp] at h
  obtain ⟨i, -, hi⟩ := List.mem_filterMap.mp h
  exact lw_w i hi h1
abbrev ws_ (y : MethodName) (b : ByteArray) (L : Nat) (r : Option FieldType) : List Cond := Cond.code y b L r :: lw_all
theorem lw_meth {y : MethodName} {b : ByteArray} {L : Nat} {r : Option FieldType} (h : Cond.code y b L r ∈ lw_all) : GoodIn lw_all (ws_ y b L r) := by
  intro w hw
  rcases List.mem_cons.mp hw with e | e
  · rw [e]
    exact lw_self _ h
  · exact lw_self _ e
theorem lw_app {a c : List Cond} (ha : ∀ w ∈ a, w ∈ lw_all) (hc : GoodIn lw_all c) : GoodIn lw_all (a ++ c) := by
  intro w hw
  rcases List.mem_append.mp hw with e | e
  · exact lw_self w (ha w e)
  · exact hc w e
theorem lw_V {own : String} {idx : Nat} {C : String} {y : MethodName} {b : ByteArray} {L : Nat} {r : Option FieldType} (h1 : Cond.methodLink own idx y ∈ lw_all) (h2 : Cond.instanceMethod y ∈ lw_all) (h3 : Cond.selects C y y ∈ lw_all) (h4 : Cond.initialized C ∈ lw_all) (h5 : Cond.code y b L r ∈ lw_all) : GoodIn lw_all (wsV own idx C y (ws_ y b L r)) := by
  refine lw_app ?_ (lw_meth h5)
  intro w hw
  simp only [List.mem_cons, List.not_mem_nil, or_false] at hw
  rcases hw with e | e | e | e
  · rw [e]; exact h1
  · rw [e]; exact h2
  · rw [e]; exact h3
  · rw [e]; exact h4
theorem lw_S {own : String} {idx : Nat} {y : MethodName} {b : ByteArray} {L : Nat} {r : Option FieldType} (h1 : Cond.methodLink own idx y ∈ lw_all) (h2 : Cond.static y ∈ lw_all) (h3 : Cond.initialized y.cls ∈ lw_all) (h4 : Cond.code y b L r ∈ lw_all) : GoodIn lw_all (va_wsS own idx y (ws_ y b L r)) := by
  refine lw_app ?_ (lw_meth h4)
  intro w hw
  simp only [List.mem_cons, List.not_mem_nil, or_false] at hw
  rcases hw with e | e | e
  · rw [e]; exact h1
  · rw [e]; exact h2
  · rw [e]; exact h3
abbrev wsW_ (y : MethodName) (b : ByteArray) (L : Nat) (r : Option FieldType) (hh : List (Nat × Nat × Nat × Nat)) : List Cond := Cond.codeWith y b L r hh :: lw_all
theorem lw_methW {y : MethodName} {b : ByteArray} {L : Nat} {r : Option FieldType} {hh : List (Nat × Nat × Nat × Nat)} (h : Cond.codeWith y b L r hh ∈ lw_all) : GoodIn lw_all (wsW_ y b L r hh) := by
  intro w hw
  rcases List.mem_cons.mp hw with e | e
  · rw [e]
    exact lw_self _ h
  · exact lw_self _ e
theorem lw_good {ws : List Cond} (h : ∀ w ∈ ws, w ∈ lw_all) : GoodIn lw_all ws := fun w hw => lw_self w (h w hw)
theorem lw_VW {own : String} {idx : Nat} {C : String} {y : MethodName} {b : ByteArray} {L : Nat} {r : Option FieldType} {hh : List (Nat × Nat × Nat × Nat)} (h1 : Cond.methodLink own idx y ∈ lw_all) (h2 : Cond.instanceMethod y ∈ lw_all) (h3 : Cond.selects C y y ∈ lw_all) (h4 : Cond.initialized C ∈ lw_all) (h5 : Cond.codeWith y b L r hh ∈ lw_all) : GoodIn lw_all (wsV own idx C y (wsW_ y b L r hh)) := by
  refine lw_app ?_ (lw_methW h5)
  intro w hw
  simp only [List.mem_cons, List.not_mem_nil, or_false] at hw
  rcases hw with e | e | e | e
  · rw [e]; exact h1
  · rw [e]; exact h2
  · rw [e]; exact h3
  · rw [e]; exact h4
theorem lw_SW {own : String} {idx : Nat} {y : MethodName} {b : ByteArray} {L : Nat} {r : Option FieldType} {hh : List (Nat × Nat × Nat × Nat)} (h1 : Cond.methodLink own idx y ∈ lw_all) (h2 : Cond.static y ∈ lw_all) (h3 : Cond.initialized y.cls ∈ lw_all) (h4 : Cond.codeWith y b L r hh ∈ lw_all) : GoodIn lw_all (va_wsS own idx y (wsW_ y b L r hh)) := by
  refine lw_app ?_ (lw_methW h4)
  intro w hw
  simp only [List.mem_cons, List.not_mem_nil, or_false] at hw
  rcases hw with e | e | e
  · rw [e]; exact h1
  · rw [e]; exact h2
  · rw [e]; exact h3
theorem lw_at {r : List Cond} (hr : ∀ w ∈ r, w ∈ lw_tbl) {w : Cond} (i : Nat) (h : r[i]? = some w) : w ∈ lw_tbl := hr w (List.mem_of_getElem? h)
theorem lw_g {w : Cond} (h : w ∈ lw_tbl) (g : goodWord w = true) : w ∈ lw_all := List.mem_filter.mpr ⟨h, g⟩
theorem lw_ms : ∀ w ∈ k2_sels lw_privs, w ∈ lw_tbl := fun w h => show w ∈ k2_sels lw_privs ++ tables_1 from List.mem_append_left _ h
theorem lw_m1 : ∀ w ∈ tables_1_1, w ∈ lw_tbl := fun w h => show w ∈ k2_sels lw_privs ++ tables_1 from List.mem_append_right (k2_sels lw_privs) (show w ∈ tables_1 from List.mem_append_left _ h)
theorem lw_m2 : ∀ w ∈ tables_1_2, w ∈ lw_tbl := fun w h => show w ∈ k2_sels lw_privs ++ tables_1 from List.mem_append_right (k2_sels lw_privs) (show w ∈ tables_1 from List.mem_append_right _ h)
theorem qs0 : (Cond.selects "CodeBreaker" ⟨"CodeBreaker", "badCode", "(I)Z"⟩ ⟨"CodeBreaker", "badCode", "(I)Z"⟩) ∈ lw_all := lw_g (lw_at lw_ms 0 rfl) rfl
theorem qs1 : (Cond.selects "CodeBreaker" ⟨"CodeBreaker", "answerTo", "(II)I"⟩ ⟨"CodeBreaker", "answerTo", "(II)I"⟩) ∈ lw_all := lw_g (lw_at lw_ms 1 rfl) rfl
theorem qs2 : (Cond.selects "CodeBreaker" ⟨"CodeBreaker", "weigh", "(II)V"⟩ ⟨"CodeBreaker", "weigh", "(II)V"⟩) ∈ lw_all := lw_g (lw_at lw_ms 2 rfl) rfl
theorem qs3 : (Cond.selects "CodeBreaker" ⟨"CodeBreaker", "countPossible", "()I"⟩ ⟨"CodeBreaker", "countPossible", "()I"⟩) ∈ lw_all := lw_g (lw_at lw_ms 3 rfl) rfl
theorem qs4 : (Cond.selects "CodeBreaker" ⟨"CodeBreaker", "partBy", "(I)V"⟩ ⟨"CodeBreaker", "partBy", "(I)V"⟩) ∈ lw_all := lw_g (lw_at lw_ms 4 rfl) rfl
theorem qs5 : (Cond.selects "CodeBreaker" ⟨"CodeBreaker", "bestBy", "(Z)I"⟩ ⟨"CodeBreaker", "bestBy", "(Z)I"⟩) ∈ lw_all := lw_g (lw_at lw_ms 5 rfl) rfl
theorem qs6 : (Cond.selects "CodeBreaker" ⟨"CodeBreaker", "needBy", "(Z)I"⟩ ⟨"CodeBreaker", "needBy", "(Z)I"⟩) ∈ lw_all := lw_g (lw_at lw_ms 6 rfl) rfl
theorem qs7 : (Cond.selects "CodeBreaker" ⟨"CodeBreaker", "listFew", "()V"⟩ ⟨"CodeBreaker", "listFew", "()V"⟩) ∈ lw_all := lw_g (lw_at lw_ms 7 rfl) rfl
theorem qs8 : (Cond.selects "CodeBreaker" ⟨"CodeBreaker", "findNeeded", "(Z)V"⟩ ⟨"CodeBreaker", "findNeeded", "(Z)V"⟩) ∈ lw_all := lw_g (lw_at lw_ms 8 rfl) rfl
theorem qs9 : (Cond.selects "CodeBreaker" ⟨"CodeBreaker", "isOf", "(II)Z"⟩ ⟨"CodeBreaker", "isOf", "(II)Z"⟩) ∈ lw_all := lw_g (lw_at lw_ms 9 rfl) rfl
theorem qs10 : (Cond.selects "CodeBreaker" ⟨"CodeBreaker", "neededWith", "(II)I"⟩ ⟨"CodeBreaker", "neededWith", "(II)I"⟩) ∈ lw_all := lw_g (lw_at lw_ms 10 rfl) rfl
theorem qs11 : (Cond.selects "CodeBreakerModel" ⟨"CodeBreakerModel", "compare", "(II)I"⟩ ⟨"CodeBreakerModel", "compare", "(II)I"⟩) ∈ lw_all := lw_g (lw_at lw_ms 11 rfl) rfl
theorem qs12 : (Cond.selects "CodeBreakerModel" ⟨"CodeBreakerModel", "digitOf", "(II)I"⟩ ⟨"CodeBreakerModel", "digitOf", "(II)I"⟩) ∈ lw_all := lw_g (lw_at lw_ms 12 rfl) rfl
theorem qs13 : (Cond.selects "CodeBreakerModel" ⟨"CodeBreakerModel", "times", "(II)I"⟩ ⟨"CodeBreakerModel", "times", "(II)I"⟩) ∈ lw_all := lw_g (lw_at lw_ms 13 rfl) rfl
theorem qs14 : (Cond.selects "CodeBreakerModel" ⟨"CodeBreakerModel", "isCode", "(I)Z"⟩ ⟨"CodeBreakerModel", "isCode", "(I)Z"⟩) ∈ lw_all := lw_g (lw_at lw_ms 14 rfl) rfl
theorem qs15 : (Cond.selects "CodeBreakerModel" ⟨"CodeBreakerModel", "answerTo", "(II)I"⟩ ⟨"CodeBreakerModel", "answerTo", "(II)I"⟩) ∈ lw_all := lw_g (lw_at lw_ms 15 rfl) rfl
theorem qs16 : (Cond.selects "CodeBreakerModel" ⟨"CodeBreakerModel", "countPossible", "(I)I"⟩ ⟨"CodeBreakerModel", "countPossible", "(I)I"⟩) ∈ lw_all := lw_g (lw_at lw_ms 16 rfl) rfl
theorem qs17 : (Cond.selects "CodeBreakerModel" ⟨"CodeBreakerModel", "agrees", "(II)Z"⟩ ⟨"CodeBreakerModel", "agrees", "(II)Z"⟩) ∈ lw_all := lw_g (lw_at lw_ms 17 rfl) rfl
theorem qs18 : (Cond.selects "CodeBreakerModel" ⟨"CodeBreakerModel", "part", "(I)V"⟩ ⟨"CodeBreakerModel", "part", "(I)V"⟩) ∈ lw_all := lw_g (lw_at lw_ms 18 rfl) rfl
theorem qs19 : (Cond.selects "CodeBreakerModel" ⟨"CodeBreakerModel", "worstOf", "(I)I"⟩ ⟨"CodeBreakerModel", "worstOf", "(I)I"⟩) ∈ lw_all := lw_g (lw_at lw_ms 19 rfl) rfl
theorem qs20 : (Cond.selects "CodeBreakerModel" ⟨"CodeBreakerModel", "weightOf", "(I)I"⟩ ⟨"CodeBreakerModel", "weightOf", "(I)I"⟩) ∈ lw_all := lw_g (lw_at lw_ms 20 rfl) rfl
theorem qs21 : (Cond.selects "CodeBreakerModel" ⟨"CodeBreakerModel", "best", "(Z)I"⟩ ⟨"CodeBreakerModel", "best", "(Z)I"⟩) ∈ lw_all := lw_g (lw_at lw_ms 21 rfl) rfl
theorem qs22 : (Cond.selects "CodeBreakerModel" ⟨"CodeBreakerModel", "solve", "(Z)I"⟩ ⟨"CodeBreakerModel", "solve", "(Z)I"⟩) ∈ lw_all := lw_g (lw_at lw_ms 22 rfl) rfl
theorem qs23 : (Cond.selects "CodeBreakerModel" ⟨"CodeBreakerModel", "canBeDone", "(IIZ)Z"⟩ ⟨"CodeBreakerModel", "canBeDone", "(IIZ)Z"⟩) ∈ lw_all := lw_g (lw_at lw_ms 23 rfl) rfl
theorem qs24 : (Cond.selects "CodeBreakerModel" ⟨"CodeBreakerModel", "isIn", "(II)Z"⟩ ⟨"CodeBreakerModel", "isIn", "(II)Z"⟩) ∈ lw_all := lw_g (lw_at lw_ms 24 rfl) rfl
theorem qs25 : (Cond.selects "CodeBreakerModel" ⟨"CodeBreakerModel", "leaves", "(III)Z"⟩ ⟨"CodeBreakerModel", "leaves", "(III)Z"⟩) ∈ lw_all := lw_g (lw_at lw_ms 25 rfl) rfl
theorem qs26 : (Cond.selects "CodeBreakerModel" ⟨"CodeBreakerModel", "partOf", "(III)I"⟩ ⟨"CodeBreakerModel", "partOf", "(III)I"⟩) ∈ lw_all := lw_g (lw_at lw_ms 26 rfl) rfl
end
section
set_option maxRecDepth 100000
def RX0 : String := "CodeBreakerLaw"
abbrev cX0_cell : ByteArray := method_2_code
def yX0_cell : MethodName := ⟨RX0, "cell", "([II)I"⟩
theorem q27 : (Jvm.Cond.initialized "CodeBreakerLaw") ∈ lw_all := lw_g (lw_at lw_m1 0 rfl) rfl
theorem q30 : (Jvm.Cond.classLink "CodeBreakerLaw" (7 : Nat) "CodeBreaker") ∈ lw_all := lw_g (lw_at lw_m1 3 rfl) rfl
theorem q32 : (Jvm.Cond.methodLink "CodeBreakerLaw" (15 : Nat) ({ cls := "CodeBreaker", name := "<init>", desc := "(II)V" } : Jvm.MethodName)) ∈ lw_all := lw_g (lw_at lw_m1 5 rfl) rfl
theorem q94 : (Jvm.Cond.methodLink "CodeBreakerLaw" (21 : Nat) ({ cls := "CodeBreaker", name := "codes", desc := "()I" } : Jvm.MethodName)) ∈ lw_all := lw_g (lw_at lw_m1 67 rfl) rfl
theorem q98 : (Jvm.Cond.methodLink "CodeBreakerLaw" (26 : Nat) ({ cls := "CodeBreaker", name := "answer", desc := "(II)I" } : Jvm.MethodName)) ∈ lw_all := lw_g (lw_at lw_m1 71 rfl) rfl
theorem q110 : (Jvm.Cond.methodLink "CodeBreakerLaw" (31 : Nat) ({ cls := "CodeBreaker", name := "tell", desc := "(III)I" } : Jvm.MethodName)) ∈ lw_all := lw_g (lw_at lw_m1 83 rfl) rfl
theorem q122 : (Jvm.Cond.methodLink "CodeBreakerLaw" (36 : Nat) ({ cls := "CodeBreaker", name := "forget", desc := "()I" } : Jvm.MethodName)) ∈ lw_all := lw_g (lw_at lw_m1 95 rfl) rfl
theorem q126 : (Jvm.Cond.methodLink "CodeBreakerLaw" (40 : Nat) ({ cls := "CodeBreaker", name := "told", desc := "()I" } : Jvm.MethodName)) ∈ lw_all := lw_g (lw_at lw_m1 99 rfl) rfl
theorem q130 : (Jvm.Cond.methodLink "CodeBreakerLaw" (44 : Nat) ({ cls := "CodeBreaker", name := "possible", desc := "()I" } : Jvm.MethodName)) ∈ lw_all := lw_g (lw_at lw_m1 103 rfl) rfl
theorem q134 : (Jvm.Cond.methodLink "CodeBreakerLaw" (48 : Nat) ({ cls := "CodeBreaker", name := "code", desc := "(I)I" } : Jvm.MethodName)) ∈ lw_all := lw_g (lw_at lw_m1 107 rfl) rfl
theorem q138 : (Jvm.Cond.methodLink "CodeBreakerLaw" (53 : Nat) ({ cls := "CodeBreaker", name := "canBe", desc := "(I)Z" } : Jvm.MethodName)) ∈ lw_all := lw_g (lw_at lw_m1 111 rfl) rfl
theorem q142 : (Jvm.Cond.methodLink "CodeBreakerLaw" (58 : Nat) ({ cls := "CodeBreaker", name := "parts", desc := "(I)I" } : Jvm.MethodName)) ∈ lw_all := lw_g (lw_at lw_m1 115 rfl) rfl
theorem q150 : (Jvm.Cond.methodLink "CodeBreakerLaw" (62 : Nat) ({ cls := "CodeBreaker", name := "worst", desc := "(I)I" } : Jvm.MethodName)) ∈ lw_all := lw_g (lw_at lw_m1 123 rfl) rfl
theorem q154 : (Jvm.Cond.methodLink "CodeBreakerLaw" (66 : Nat) ({ cls := "CodeBreaker", name := "weight", desc := "(I)I" } : Jvm.MethodName)) ∈ lw_all := lw_g (lw_at lw_m1 127 rfl) rfl
theorem q158 : (Jvm.Cond.methodLink "CodeBreakerLaw" (70 : Nat) ({ cls := "CodeBreaker", name := "safest", desc := "()I" } : Jvm.MethodName)) ∈ lw_all := lw_g (lw_at lw_m1 131 rfl) rfl
theorem q167 : (Jvm.Cond.methodLink "CodeBreakerLaw" (74 : Nat) ({ cls := "CodeBreaker", name := "sharpest", desc := "()I" } : Jvm.MethodName)) ∈ lw_all := lw_g (lw_at lw_m1 140 rfl) rfl
theorem q171 : (Jvm.Cond.methodLink "CodeBreakerLaw" (78 : Nat) ({ cls := "CodeBreaker", name := "need", desc := "()I" } : Jvm.MethodName)) ∈ lw_all := lw_g (lw_at lw_m1 144 rfl) rfl
theorem q195 : (Jvm.Cond.methodLink "CodeBreakerLaw" (82 : Nat) ({ cls := "CodeBreaker", name := "needKept", desc := "()I" } : Jvm.MethodName)) ∈ lw_all := lw_g (lw_at lw_m1 168 rfl) rfl
theorem q199 : (Jvm.Cond.methodLink "CodeBreakerLaw" (86 : Nat) ({ cls := "CodeBreaker", name := "first", desc := "()I" } : Jvm.MethodName)) ∈ lw_all := lw_g (lw_at lw_m1 172 rfl) rfl
theorem q203 : (Jvm.Cond.methodLink "CodeBreakerLaw" (90 : Nat) ({ cls := "CodeBreaker", name := "useful", desc := "()I" } : Jvm.MethodName)) ∈ lw_all := lw_g (lw_at lw_m1 176 rfl) rfl
theorem q207 : (Jvm.Cond.methodLink "CodeBreakerLaw" (9 : Nat) ({ cls := "CodeBreakerLaw", name := "cell", desc := "([II)I" } : Jvm.MethodName)) ∈ lw_all := lw_g (lw_at lw_m1 180 rfl) rfl
theorem q208 : (Jvm.Cond.static ({ cls := "CodeBreakerLaw", name := "cell", desc := "([II)I" } : Jvm.MethodName)) ∈ lw_all := lw_g (lw_at lw_m1 181 rfl) rfl
theorem q209 : (Jvm.Cond.code ({ cls := "CodeBreakerLaw", name := "cell", desc := "([II)I" } : Jvm.MethodName) method_2_code (2 : Nat) (Option.some Jvm.ClassFile.FieldType.int)) ∈ lw_all := lw_g (lw_at lw_m1 182 rfl) rfl
theorem q210 : (Jvm.Cond.classLink "CodeBreakerLaw" (18 : Nat) "CodeBreakerModel") ∈ lw_all := lw_g (lw_at lw_m1 183 rfl) rfl
theorem q212 : (Jvm.Cond.methodLink "CodeBreakerLaw" (20 : Nat) ({ cls := "CodeBreakerModel", name := "<init>", desc := "(II)V" } : Jvm.MethodName)) ∈ lw_all := lw_g (lw_at lw_m1 185 rfl) rfl
theorem q262 : (Jvm.Cond.methodLink "CodeBreakerLaw" (25 : Nat) ({ cls := "CodeBreakerModel", name := "codes", desc := "()I" } : Jvm.MethodName)) ∈ lw_all := lw_g (lw_at lw_m1 235 rfl) rfl
theorem q266 : (Jvm.Cond.methodLink "CodeBreakerLaw" (30 : Nat) ({ cls := "CodeBreakerModel", name := "answer", desc := "(II)I" } : Jvm.MethodName)) ∈ lw_all := lw_g (lw_at lw_m1 239 rfl) rfl
theorem q278 : (Jvm.Cond.methodLink "CodeBreakerLaw" (35 : Nat) ({ cls := "CodeBreakerModel", name := "tell", desc := "(III)I" } : Jvm.MethodName)) ∈ lw_all := lw_g (lw_at lw_m2 11 rfl) rfl
theorem q290 : (Jvm.Cond.methodLink "CodeBreakerLaw" (39 : Nat) ({ cls := "CodeBreakerModel", name := "forget", desc := "()I" } : Jvm.MethodName)) ∈ lw_all := lw_g (lw_at lw_m2 23 rfl) rfl
theorem q294 : (Jvm.Cond.methodLink "CodeBreakerLaw" (43 : Nat) ({ cls := "CodeBreakerModel", name := "told", desc := "()I" } : Jvm.MethodName)) ∈ lw_all := lw_g (lw_at lw_m2 27 rfl) rfl
theorem q298 : (Jvm.Cond.methodLink "CodeBreakerLaw" (47 : Nat) ({ cls := "CodeBreakerModel", name := "possible", desc := "()I" } : Jvm.MethodName)) ∈ lw_all := lw_g (lw_at lw_m2 31 rfl) rfl
theorem q302 : (Jvm.Cond.methodLink "CodeBreakerLaw" (52 : Nat) ({ cls := "CodeBreakerModel", name := "code", desc := "(I)I" } : Jvm.MethodName)) ∈ lw_all := lw_g (lw_at lw_m2 35 rfl) rfl
theorem q306 : (Jvm.Cond.methodLink "CodeBreakerLaw" (57 : Nat) ({ cls := "CodeBreakerModel", name := "canBe", desc := "(I)Z" } : Jvm.MethodName)) ∈ lw_all := lw_g (lw_at lw_m2 39 rfl) rfl
theorem q310 : (Jvm.Cond.methodLink "CodeBreakerLaw" (61 : Nat) ({ cls := "CodeBreakerModel", name := "parts", desc := "(I)I" } : Jvm.MethodName)) ∈ lw_all := lw_g (lw_at lw_m2 43 rfl) rfl
theorem q318 : (Jvm.Cond.methodLink "CodeBreakerLaw" (65 : Nat) ({ cls := "CodeBreakerModel", name := "worst", desc := "(I)I" } : Jvm.MethodName)) ∈ lw_all := lw_g (lw_at lw_m2 51 rfl) rfl
theorem q326 : (Jvm.Cond.methodLink "CodeBreakerLaw" (69 : Nat) ({ cls := "CodeBreakerModel", name := "weight", desc := "(I)I" } : Jvm.MethodName)) ∈ lw_all := lw_g (lw_at lw_m2 59 rfl) rfl
theorem q334 : (Jvm.Cond.methodLink "CodeBreakerLaw" (73 : Nat) ({ cls := "CodeBreakerModel", name := "safest", desc := "()I" } : Jvm.MethodName)) ∈ lw_all := lw_g (lw_at lw_m2 67 rfl) rfl
theorem q342 : (Jvm.Cond.methodLink "CodeBreakerLaw" (77 : Nat) ({ cls := "CodeBreakerModel", name := "sharpest", desc := "()I" } : Jvm.MethodName)) ∈ lw_all := lw_g (lw_at lw_m2 75 rfl) rfl
theorem q346 : (Jvm.Cond.methodLink "CodeBreakerLaw" (81 : Nat) ({ cls := "CodeBreakerModel", name := "need", desc := "()I" } : Jvm.MethodName)) ∈ lw_all := lw_g (lw_at lw_m2 79 rfl) rfl
theorem q370 : (Jvm.Cond.methodLink "CodeBreakerLaw" (85 : Nat) ({ cls := "CodeBreakerModel", name := "needKept", desc := "()I" } : Jvm.MethodName)) ∈ lw_all := lw_g (lw_at lw_m2 103 rfl) rfl
theorem q374 : (Jvm.Cond.methodLink "CodeBreakerLaw" (89 : Nat) ({ cls := "CodeBreakerModel", name := "first", desc := "()I" } : Jvm.MethodName)) ∈ lw_all := lw_g (lw_at lw_m2 107 rfl) rfl
theorem q378 : (Jvm.Cond.methodLink "CodeBreakerLaw" (93 : Nat) ({ cls := "CodeBreakerModel", name := "useful", desc := "()I" } : Jvm.MethodName)) ∈ lw_all := lw_g (lw_at lw_m2 111 rfl) rfl
def RX1 : String := "CodeBreaker"
def TX1 : u_T := fun k => match k with
  | 0 => ("CodeBreaker", "length", "I", true)
  | 1 => ("CodeBreaker", "digits", "I", true)
  | 2 => ("CodeBreaker", "codeCount", "I", true)
  | 3 => ("CodeBreaker", "digitOf", "[I", true)
  | 4 => ("CodeBreaker", "timesOf", "[I", true)
  | 5 => ("CodeBreaker", "count", "I", false)
  | 6 => ("CodeBreaker", "guessOf", "[I", true)
  | 7 => ("CodeBreaker", "answerOf", "[I", true)
  | 8 => ("CodeBreaker", "against", "[I", true)
  | 9 => ("CodeBreaker", "partSize", "[I", true)
  | 10 => ("CodeBreaker", "partCount", "I", false)
  | 11 => ("CodeBreaker", "greatest", "I", false)
  | 12 => ("CodeBreaker", "squares", "I", false)
  | 13 => ("CodeBreaker", "few", "I", false)
  | 14 => ("CodeBreaker", "fewCode", "[I", true)
  | 15 => ("CodeBreaker", "fewAnswer", "[I", true)
  | 16 => ("CodeBreaker", "needed", "[I", true)
  | _ => ("CodeBreaker", "partSet", "[I", true)
def tyX1 : Nat → FieldType := fun k => match k with
  | 0 => .int
  | 1 => .int
  | 2 => .int
  | 3 => .array .int
  | 4 => .array .int
  | 5 => .int
  | 6 => .array .int
  | 7 => .array .int
  | 8 => .array .int
  | 9 => .array .int
  | 10 => .int
  | 11 => .int
  | 12 => .int
  | 13 => .int
  | 14 => .array .int
  | 15 => .array .int
  | 16 => .array .int
  | _ => .array .int
abbrev wsX10 : List Cond := u_ws RX1 TX1 18
theorem nmX1 : ∀ a, a < 18 → ∀ b, b < 18 → a ≠ b → (TX1 a).2.1 ≠ (TX1 b).2.1 := by decide +kernel
theorem tyX1_ok : ∀ k, k < 18 → parseFieldDescriptor (TX1 k).2.2.1 = some (tyX1 k) := by decide +kernel
abbrev cX1_init : ByteArray := prog_1_method_1_code
def yX1_init : MethodName := ⟨RX1, "<init>", "(II)V"⟩
abbrev cX1_codes : ByteArray := prog_1_method_3_code
def yX1_codes : MethodName := ⟨RX1, "codes", "()I"⟩
abbrev cX1_answer : ByteArray := prog_1_method_5_code
def yX1_answer : MethodName := ⟨RX1, "answer", "(II)I"⟩
abbrev cX1_badCode : ByteArray := prog_1_method_2_code
def yX1_badCode : MethodName := ⟨RX1, "badCode", "(I)Z"⟩
abbrev cX1_answerTo : ByteArray := prog_1_method_4_code
def yX1_answerTo : MethodName := ⟨RX1, "answerTo", "(II)I"⟩
abbrev cX1_tell : ByteArray := prog_1_method_8_code
def yX1_tell : MethodName := ⟨RX1, "tell", "(III)I"⟩
abbrev cX1_weigh : ByteArray := prog_1_method_6_code
def yX1_weigh : MethodName := ⟨RX1, "weigh", "(II)V"⟩
abbrev cX1_countPossible : ByteArray := prog_1_method_7_code
def yX1_countPossible : MethodName := ⟨RX1, "countPossible", "()I"⟩
abbrev cX1_forget : ByteArray := prog_1_method_9_code
def yX1_forget : MethodName := ⟨RX1, "forget", "()I"⟩
abbrev cX1_told : ByteArray := prog_1_method_10_code
def yX1_told : MethodName := ⟨RX1, "told", "()I"⟩
abbrev cX1_possible : ByteArray := prog_1_method_11_code
def yX1_possible : MethodName := ⟨RX1, "possible", "()I"⟩
abbrev cX1_code : ByteArray := prog_1_method_12_code
def yX1_code : MethodName := ⟨RX1, "code", "(I)I"⟩
abbrev cX1_canBe : ByteArray := prog_1_method_13_code
def yX1_canBe : MethodName := ⟨RX1, "canBe", "(I)Z"⟩
abbrev cX1_parts : ByteArray := prog_1_method_15_code
def yX1_parts : MethodName := ⟨RX1, "parts", "(I)I"⟩
abbrev cX1_partBy : ByteArray := prog_1_method_14_code
def yX1_partBy : MethodName := ⟨RX1, "partBy", "(I)V"⟩
abbrev cX1_worst : ByteArray := prog_1_method_16_code
def yX1_worst : MethodName := ⟨RX1, "worst", "(I)I"⟩
abbrev cX1_weight : ByteArray := prog_1_method_17_code
def yX1_weight : MethodName := ⟨RX1, "weight", "(I)I"⟩
abbrev cX1_safest : ByteArray := prog_1_method_19_code
def yX1_safest : MethodName := ⟨RX1, "safest", "()I"⟩
abbrev cX1_bestBy : ByteArray := prog_1_method_18_code
def yX1_bestBy : MethodName := ⟨RX1, "bestBy", "(Z)I"⟩
abbrev cX1_sharpest : ByteArray := prog_1_method_20_code
def yX1_sharpest : MethodName := ⟨RX1, "sharpest", "()I"⟩
abbrev cX1_need : ByteArray := prog_1_method_26_code
def yX1_need : MethodName := ⟨RX1, "need", "()I"⟩
abbrev cX1_needBy : ByteArray := prog_1_method_25_code
def yX1_needBy : MethodName := ⟨RX1, "needBy", "(Z)I"⟩
abbrev cX1_listFew : ByteArray := prog_1_method_21_code
def yX1_listFew : MethodName := ⟨RX1, "listFew", "()V"⟩
abbrev cX1_findNeeded : ByteArray := prog_1_method_24_code
def yX1_findNeeded : MethodName := ⟨RX1, "findNeeded", "(Z)V"⟩
abbrev cX1_isOf : ByteArray := prog_1_method_23_code
def yX1_isOf : MethodName := ⟨RX1, "isOf", "(II)Z"⟩
abbrev cX1_neededWith : ByteArray := prog_1_method_22_code
def yX1_neededWith : MethodName := ⟨RX1, "neededWith", "(II)I"⟩
abbrev cX1_needKept : ByteArray := prog_1_method_27_code
def yX1_needKept : MethodName := ⟨RX1, "needKept", "()I"⟩
abbrev cX1_first : ByteArray := prog_1_method_28_code
def yX1_first : MethodName := ⟨RX1, "first", "()I"⟩
abbrev cX1_useful : ByteArray := prog_1_method_29_code
def yX1_useful : MethodName := ⟨RX1, "useful", "()I"⟩
theorem q28 : (Jvm.Cond.initialized "CodeBreaker") ∈ lw_all := lw_g (lw_at lw_m1 1 rfl) rfl
theorem q31 : (Jvm.Cond.instantiable "CodeBreaker" (18 : Nat)) ∈ lw_all := lw_g (lw_at lw_m1 4 rfl) rfl
theorem q33 : (Jvm.Cond.instanceMethod ({ cls := "CodeBreaker", name := "<init>", desc := "(II)V" } : Jvm.MethodName)) ∈ lw_all := lw_g (lw_at lw_m1 6 rfl) rfl
theorem q34 : (Jvm.Cond.code ({ cls := "CodeBreaker", name := "<init>", desc := "(II)V" } : Jvm.MethodName) prog_1_method_1_code (8 : Nat) (Option.none : Option Jvm.ClassFile.FieldType)) ∈ lw_all := lw_g (lw_at lw_m1 7 rfl) rfl
theorem q35 : (Jvm.Cond.methodLink "CodeBreaker" (1 : Nat) ({ cls := "java/lang/Object", name := "<init>", desc := "()V" } : Jvm.MethodName)) ∈ lw_all := lw_g (lw_at lw_m1 8 rfl) rfl
theorem q38 : (Jvm.Cond.fieldLink "CodeBreaker" (40 : Nat) "CodeBreaker" "length" "I") ∈ lw_all := lw_g (lw_at lw_m1 11 rfl) rfl
theorem q39 : (Jvm.Cond.fieldLink "CodeBreaker" (44 : Nat) "CodeBreaker" "digits" "I") ∈ lw_all := lw_g (lw_at lw_m1 12 rfl) rfl
theorem q40 : (Jvm.Cond.fieldLink "CodeBreaker" (47 : Nat) "CodeBreaker" "codeCount" "I") ∈ lw_all := lw_g (lw_at lw_m1 13 rfl) rfl
theorem q41 : (Jvm.Cond.fieldLink "CodeBreaker" (7 : Nat) "CodeBreaker" "digitOf" "[I") ∈ lw_all := lw_g (lw_at lw_m1 14 rfl) rfl
theorem q42 : (Jvm.Cond.fieldLink "CodeBreaker" (13 : Nat) "CodeBreaker" "timesOf" "[I") ∈ lw_all := lw_g (lw_at lw_m1 15 rfl) rfl
theorem q43 : (Jvm.Cond.fieldLink "CodeBreaker" (58 : Nat) "CodeBreaker" "count" "I") ∈ lw_all := lw_g (lw_at lw_m1 16 rfl) rfl
theorem q44 : (Jvm.Cond.fieldLink "CodeBreaker" (16 : Nat) "CodeBreaker" "guessOf" "[I") ∈ lw_all := lw_g (lw_at lw_m1 17 rfl) rfl
theorem q45 : (Jvm.Cond.fieldLink "CodeBreaker" (19 : Nat) "CodeBreaker" "answerOf" "[I") ∈ lw_all := lw_g (lw_at lw_m1 18 rfl) rfl
theorem q46 : (Jvm.Cond.fieldLink "CodeBreaker" (22 : Nat) "CodeBreaker" "against" "[I") ∈ lw_all := lw_g (lw_at lw_m1 19 rfl) rfl
theorem q47 : (Jvm.Cond.fieldLink "CodeBreaker" (25 : Nat) "CodeBreaker" "partSize" "[I") ∈ lw_all := lw_g (lw_at lw_m1 20 rfl) rfl
theorem q48 : (Jvm.Cond.fieldLink "CodeBreaker" (69 : Nat) "CodeBreaker" "partCount" "I") ∈ lw_all := lw_g (lw_at lw_m1 21 rfl) rfl
theorem q49 : (Jvm.Cond.fieldLink "CodeBreaker" (72 : Nat) "CodeBreaker" "greatest" "I") ∈ lw_all := lw_g (lw_at lw_m1 22 rfl) rfl
theorem q50 : (Jvm.Cond.fieldLink "CodeBreaker" (75 : Nat) "CodeBreaker" "squares" "I") ∈ lw_all := lw_g (lw_at lw_m1 23 rfl) rfl
theorem q51 : (Jvm.Cond.fieldLink "CodeBreaker" (87 : Nat) "CodeBreaker" "few" "I") ∈ lw_all := lw_g (lw_at lw_m1 24 rfl) rfl
theorem q52 : (Jvm.Cond.fieldLink "CodeBreaker" (28 : Nat) "CodeBreaker" "fewCode" "[I") ∈ lw_all := lw_g (lw_at lw_m1 25 rfl) rfl
theorem q53 : (Jvm.Cond.fieldLink "CodeBreaker" (31 : Nat) "CodeBreaker" "fewAnswer" "[I") ∈ lw_all := lw_g (lw_at lw_m1 26 rfl) rfl
theorem q54 : (Jvm.Cond.fieldLink "CodeBreaker" (34 : Nat) "CodeBreaker" "needed" "[I") ∈ lw_all := lw_g (lw_at lw_m1 27 rfl) rfl
theorem q55 : (Jvm.Cond.fieldLink "CodeBreaker" (37 : Nat) "CodeBreaker" "partSet" "[I") ∈ lw_all := lw_g (lw_at lw_m1 28 rfl) rfl
theorem q56 : (Jvm.Cond.laysFinal "CodeBreaker" "CodeBreaker" "length" "I") ∈ lw_all := lw_g (lw_at lw_m1 29 rfl) rfl
theorem q57 : (Jvm.Cond.soleField "CodeBreaker" "length") ∈ lw_all := lw_g (lw_at lw_m1 30 rfl) rfl
theorem q58 : (Jvm.Cond.laysFinal "CodeBreaker" "CodeBreaker" "digits" "I") ∈ lw_all := lw_g (lw_at lw_m1 31 rfl) rfl
theorem q59 : (Jvm.Cond.soleField "CodeBreaker" "digits") ∈ lw_all := lw_g (lw_at lw_m1 32 rfl) rfl
theorem q60 : (Jvm.Cond.laysFinal "CodeBreaker" "CodeBreaker" "codeCount" "I") ∈ lw_all := lw_g (lw_at lw_m1 33 rfl) rfl
theorem q61 : (Jvm.Cond.soleField "CodeBreaker" "codeCount") ∈ lw_all := lw_g (lw_at lw_m1 34 rfl) rfl
theorem q62 : (Jvm.Cond.laysFinal "CodeBreaker" "CodeBreaker" "digitOf" "[I") ∈ lw_all := lw_g (lw_at lw_m1 35 rfl) rfl
theorem q63 : (Jvm.Cond.soleField "CodeBreaker" "digitOf") ∈ lw_all := lw_g (lw_at lw_m1 36 rfl) rfl
theorem q64 : (Jvm.Cond.laysFinal "CodeBreaker" "CodeBreaker" "timesOf" "[I") ∈ lw_all := lw_g (lw_at lw_m1 37 rfl) rfl
theorem q65 : (Jvm.Cond.soleField "CodeBreaker" "timesOf") ∈ lw_all := lw_g (lw_at lw_m1 38 rfl) rfl
theorem q66 : (Jvm.Cond.lays "CodeBreaker" "CodeBreaker" "count" "I") ∈ lw_all := lw_g (lw_at lw_m1 39 rfl) rfl
theorem q67 : (Jvm.Cond.soleField "CodeBreaker" "count") ∈ lw_all := lw_g (lw_at lw_m1 40 rfl) rfl
theorem q68 : (Jvm.Cond.laysFinal "CodeBreaker" "CodeBreaker" "guessOf" "[I") ∈ lw_all := lw_g (lw_at lw_m1 41 rfl) rfl
theorem q69 : (Jvm.Cond.soleField "CodeBreaker" "guessOf") ∈ lw_all := lw_g (lw_at lw_m1 42 rfl) rfl
theorem q70 : (Jvm.Cond.laysFinal "CodeBreaker" "CodeBreaker" "answerOf" "[I") ∈ lw_all := lw_g (lw_at lw_m1 43 rfl) rfl
theorem q71 : (Jvm.Cond.soleField "CodeBreaker" "answerOf") ∈ lw_all := lw_g (lw_at lw_m1 44 rfl) rfl
theorem q72 : (Jvm.Cond.laysFinal "CodeBreaker" "CodeBreaker" "against" "[I") ∈ lw_all := lw_g (lw_at lw_m1 45 rfl) rfl
theorem q73 : (Jvm.Cond.soleField "CodeBreaker" "against") ∈ lw_all := lw_g (lw_at lw_m1 46 rfl) rfl
theorem q74 : (Jvm.Cond.laysFinal "CodeBreaker" "CodeBreaker" "partSize" "[I") ∈ lw_all := lw_g (lw_at lw_m1 47 rfl) rfl
theorem q75 : (Jvm.Cond.soleField "CodeBreaker" "partSize") ∈ lw_all := lw_g (lw_at lw_m1 48 rfl) rfl
theorem q76 : (Jvm.Cond.lays "CodeBreaker" "CodeBreaker" "partCount" "I") ∈ lw_all := lw_g (lw_at lw_m1 49 rfl) rfl
theorem q77 : (Jvm.Cond.soleField "CodeBreaker" "partCount") ∈ lw_all := lw_g (lw_at lw_m1 50 rfl) rfl
theorem q78 : (Jvm.Cond.lays "CodeBreaker" "CodeBreaker" "greatest" "I") ∈ lw_all := lw_g (lw_at lw_m1 51 rfl) rfl
theorem q79 : (Jvm.Cond.soleField "CodeBreaker" "greatest") ∈ lw_all := lw_g (lw_at lw_m1 52 rfl) rfl
theorem q80 : (Jvm.Cond.lays "CodeBreaker" "CodeBreaker" "squares" "I") ∈ lw_all := lw_g (lw_at lw_m1 53 rfl) rfl
theorem q81 : (Jvm.Cond.soleField "CodeBreaker" "squares") ∈ lw_all := lw_g (lw_at lw_m1 54 rfl) rfl
theorem q82 : (Jvm.Cond.lays "CodeBreaker" "CodeBreaker" "few" "I") ∈ lw_all := lw_g (lw_at lw_m1 55 rfl) rfl
theorem q83 : (Jvm.Cond.soleField "CodeBreaker" "few") ∈ lw_all := lw_g (lw_at lw_m1 56 rfl) rfl
theorem q84 : (Jvm.Cond.laysFinal "CodeBreaker" "CodeBreaker" "fewCode" "[I") ∈ lw_all := lw_g (lw_at lw_m1 57 rfl) rfl
theorem q85 : (Jvm.Cond.soleField "CodeBreaker" "fewCode") ∈ lw_all := lw_g (lw_at lw_m1 58 rfl) rfl
theorem q86 : (Jvm.Cond.laysFinal "CodeBreaker" "CodeBreaker" "fewAnswer" "[I") ∈ lw_all := lw_g (lw_at lw_m1 59 rfl) rfl
theorem q87 : (Jvm.Cond.soleField "CodeBreaker" "fewAnswer") ∈ lw_all := lw_g (lw_at lw_m1 60 rfl) rfl
theorem q88 : (Jvm.Cond.laysFinal "CodeBreaker" "CodeBreaker" "needed" "[I") ∈ lw_all := lw_g (lw_at lw_m1 61 rfl) rfl
theorem q89 : (Jvm.Cond.soleField "CodeBreaker" "needed") ∈ lw_all := lw_g (lw_at lw_m1 62 rfl) rfl
theorem q90 : (Jvm.Cond.laysFinal "CodeBreaker" "CodeBreaker" "partSet" "[I") ∈ lw_all := lw_g (lw_at lw_m1 63 rfl) rfl
theorem q91 : (Jvm.Cond.soleField "CodeBreaker" "partSet") ∈ lw_all := lw_g (lw_at lw_m1 64 rfl) rfl
theorem q92 : (Jvm.Cond.superclass "CodeBreaker" "java/lang/Object") ∈ lw_all := lw_g (lw_at lw_m1 65 rfl) rfl
theorem q95 : (Jvm.Cond.instanceMethod ({ cls := "CodeBreaker", name := "codes", desc := "()I" } : Jvm.MethodName)) ∈ lw_all := lw_g (lw_at lw_m1 68 rfl) rfl
theorem q96 : (Jvm.Cond.selects "CodeBreaker" ({ cls := "CodeBreaker", name := "codes", desc := "()I" } : Jvm.MethodName) ({ cls := "CodeBreaker", name := "codes", desc := "()I" } : Jvm.MethodName)) ∈ lw_all := lw_g (lw_at lw_m1 69 rfl) rfl
theorem q97 : (Jvm.Cond.code ({ cls := "CodeBreaker", name := "codes", desc := "()I" } : Jvm.MethodName) prog_1_method_3_code (1 : Nat) (Option.some Jvm.ClassFile.FieldType.int)) ∈ lw_all := lw_g (lw_at lw_m1 70 rfl) rfl
theorem q99 : (Jvm.Cond.instanceMethod ({ cls := "CodeBreaker", name := "answer", desc := "(II)I" } : Jvm.MethodName)) ∈ lw_all := lw_g (lw_at lw_m1 72 rfl) rfl
theorem q100 : (Jvm.Cond.selects "CodeBreaker" ({ cls := "CodeBreaker", name := "answer", desc := "(II)I" } : Jvm.MethodName) ({ cls := "CodeBreaker", name := "answer", desc := "(II)I" } : Jvm.MethodName)) ∈ lw_all := lw_g (lw_at lw_m1 73 rfl) rfl
theorem q101 : (Jvm.Cond.code ({ cls := "CodeBreaker", name := "answer", desc := "(II)I" } : Jvm.MethodName) prog_1_method_5_code (3 : Nat) (Option.some Jvm.ClassFile.FieldType.int)) ∈ lw_all := lw_g (lw_at lw_m1 74 rfl) rfl
theorem q102 : (Jvm.Cond.methodLink "CodeBreaker" (50 : Nat) ({ cls := "CodeBreaker", name := "badCode", desc := "(I)Z" } : Jvm.MethodName)) ∈ lw_all := lw_g (lw_at lw_m1 75 rfl) rfl
theorem q103 : (Jvm.Cond.privateMethod ({ cls := "CodeBreaker", name := "badCode", desc := "(I)Z" } : Jvm.MethodName)) ∈ lw_tbl := lw_at lw_m1 76 rfl
theorem q104 : (Jvm.Cond.instanceMethod ({ cls := "CodeBreaker", name := "badCode", desc := "(I)Z" } : Jvm.MethodName)) ∈ lw_all := lw_g (lw_at lw_m1 77 rfl) rfl
theorem q105 : (Jvm.Cond.code ({ cls := "CodeBreaker", name := "badCode", desc := "(I)Z" } : Jvm.MethodName) prog_1_method_2_code (2 : Nat) (Option.some Jvm.ClassFile.FieldType.boolean)) ∈ lw_all := lw_g (lw_at lw_m1 78 rfl) rfl
theorem q106 : (Jvm.Cond.methodLink "CodeBreaker" (54 : Nat) ({ cls := "CodeBreaker", name := "answerTo", desc := "(II)I" } : Jvm.MethodName)) ∈ lw_all := lw_g (lw_at lw_m1 79 rfl) rfl
theorem q107 : (Jvm.Cond.privateMethod ({ cls := "CodeBreaker", name := "answerTo", desc := "(II)I" } : Jvm.MethodName)) ∈ lw_tbl := lw_at lw_m1 80 rfl
theorem q108 : (Jvm.Cond.instanceMethod ({ cls := "CodeBreaker", name := "answerTo", desc := "(II)I" } : Jvm.MethodName)) ∈ lw_all := lw_g (lw_at lw_m1 81 rfl) rfl
theorem q109 : (Jvm.Cond.code ({ cls := "CodeBreaker", name := "answerTo", desc := "(II)I" } : Jvm.MethodName) prog_1_method_4_code (8 : Nat) (Option.some Jvm.ClassFile.FieldType.int)) ∈ lw_all := lw_g (lw_at lw_m1 82 rfl) rfl
theorem q111 : (Jvm.Cond.instanceMethod ({ cls := "CodeBreaker", name := "tell", desc := "(III)I" } : Jvm.MethodName)) ∈ lw_all := lw_g (lw_at lw_m1 84 rfl) rfl
theorem q112 : (Jvm.Cond.selects "CodeBreaker" ({ cls := "CodeBreaker", name := "tell", desc := "(III)I" } : Jvm.MethodName) ({ cls := "CodeBreaker", name := "tell", desc := "(III)I" } : Jvm.MethodName)) ∈ lw_all := lw_g (lw_at lw_m1 85 rfl) rfl
theorem q113 : (Jvm.Cond.code ({ cls := "CodeBreaker", name := "tell", desc := "(III)I" } : Jvm.MethodName) prog_1_method_8_code (4 : Nat) (Option.some Jvm.ClassFile.FieldType.int)) ∈ lw_all := lw_g (lw_at lw_m1 86 rfl) rfl
theorem q114 : (Jvm.Cond.methodLink "CodeBreaker" (61 : Nat) ({ cls := "CodeBreaker", name := "weigh", desc := "(II)V" } : Jvm.MethodName)) ∈ lw_all := lw_g (lw_at lw_m1 87 rfl) rfl
theorem q115 : (Jvm.Cond.privateMethod ({ cls := "CodeBreaker", name := "weigh", desc := "(II)V" } : Jvm.MethodName)) ∈ lw_tbl := lw_at lw_m1 88 rfl
theorem q116 : (Jvm.Cond.instanceMethod ({ cls := "CodeBreaker", name := "weigh", desc := "(II)V" } : Jvm.MethodName)) ∈ lw_all := lw_g (lw_at lw_m1 89 rfl) rfl
theorem q117 : (Jvm.Cond.code ({ cls := "CodeBreaker", name := "weigh", desc := "(II)V" } : Jvm.MethodName) prog_1_method_6_code (5 : Nat) (Option.none : Option Jvm.ClassFile.FieldType)) ∈ lw_all := lw_g (lw_at lw_m1 90 rfl) rfl
theorem q118 : (Jvm.Cond.methodLink "CodeBreaker" (65 : Nat) ({ cls := "CodeBreaker", name := "countPossible", desc := "()I" } : Jvm.MethodName)) ∈ lw_all := lw_g (lw_at lw_m1 91 rfl) rfl
theorem q119 : (Jvm.Cond.privateMethod ({ cls := "CodeBreaker", name := "countPossible", desc := "()I" } : Jvm.MethodName)) ∈ lw_tbl := lw_at lw_m1 92 rfl
theorem q120 : (Jvm.Cond.instanceMethod ({ cls := "CodeBreaker", name := "countPossible", desc := "()I" } : Jvm.MethodName)) ∈ lw_all := lw_g (lw_at lw_m1 93 rfl) rfl
theorem q121 : (Jvm.Cond.code ({ cls := "CodeBreaker", name := "countPossible", desc := "()I" } : Jvm.MethodName) prog_1_method_7_code (3 : Nat) (Option.some Jvm.ClassFile.FieldType.int)) ∈ lw_all := lw_g (lw_at lw_m1 94 rfl) rfl
theorem q123 : (Jvm.Cond.instanceMethod ({ cls := "CodeBreaker", name := "forget", desc := "()I" } : Jvm.MethodName)) ∈ lw_all := lw_g (lw_at lw_m1 96 rfl) rfl
theorem q124 : (Jvm.Cond.selects "CodeBreaker" ({ cls := "CodeBreaker", name := "forget", desc := "()I" } : Jvm.MethodName) ({ cls := "CodeBreaker", name := "forget", desc := "()I" } : Jvm.MethodName)) ∈ lw_all := lw_g (lw_at lw_m1 97 rfl) rfl
theorem q125 : (Jvm.Cond.code ({ cls := "CodeBreaker", name := "forget", desc := "()I" } : Jvm.MethodName) prog_1_method_9_code (1 : Nat) (Option.some Jvm.ClassFile.FieldType.int)) ∈ lw_all := lw_g (lw_at lw_m1 98 rfl) rfl
theorem q127 : (Jvm.Cond.instanceMethod ({ cls := "CodeBreaker", name := "told", desc := "()I" } : Jvm.MethodName)) ∈ lw_all := lw_g (lw_at lw_m1 100 rfl) rfl
theorem q128 : (Jvm.Cond.selects "CodeBreaker" ({ cls := "CodeBreaker", name := "told", desc := "()I" } : Jvm.MethodName) ({ cls := "CodeBreaker", name := "told", desc := "()I" } : Jvm.MethodName)) ∈ lw_all := lw_g (lw_at lw_m1 101 rfl) rfl
theorem q129 : (Jvm.Cond.code ({ cls := "CodeBreaker", name := "told", desc := "()I" } : Jvm.MethodName) prog_1_method_10_code (1 : Nat) (Option.some Jvm.ClassFile.FieldType.int)) ∈ lw_all := lw_g (lw_at lw_m1 102 rfl) rfl
theorem q131 : (Jvm.Cond.instanceMethod ({ cls := "CodeBreaker", name := "possible", desc := "()I" } : Jvm.MethodName)) ∈ lw_all := lw_g (lw_at lw_m1 104 rfl) rfl
theorem q132 : (Jvm.Cond.selects "CodeBreaker" ({ cls := "CodeBreaker", name := "possible", desc := "()I" } : Jvm.MethodName) ({ cls := "CodeBreaker", name := "possible", desc := "()I" } : Jvm.MethodName)) ∈ lw_all := lw_g (lw_at lw_m1 105 rfl) rfl
theorem q133 : (Jvm.Cond.code ({ cls := "CodeBreaker", name := "possible", desc := "()I" } : Jvm.MethodName) prog_1_method_11_code (1 : Nat) (Option.some Jvm.ClassFile.FieldType.int)) ∈ lw_all := lw_g (lw_at lw_m1 106 rfl) rfl
theorem q135 : (Jvm.Cond.instanceMethod ({ cls := "CodeBreaker", name := "code", desc := "(I)I" } : Jvm.MethodName)) ∈ lw_all := lw_g (lw_at lw_m1 108 rfl) rfl
theorem q136 : (Jvm.Cond.selects "CodeBreaker" ({ cls := "CodeBreaker", name := "code", desc := "(I)I" } : Jvm.MethodName) ({ cls := "CodeBreaker", name := "code", desc := "(I)I" } : Jvm.MethodName)) ∈ lw_all := lw_g (lw_at lw_m1 109 rfl) rfl
theorem q137 : (Jvm.Cond.code ({ cls := "CodeBreaker", name := "code", desc := "(I)I" } : Jvm.MethodName) prog_1_method_12_code (4 : Nat) (Option.some Jvm.ClassFile.FieldType.int)) ∈ lw_all := lw_g (lw_at lw_m1 110 rfl) rfl
theorem q139 : (Jvm.Cond.instanceMethod ({ cls := "CodeBreaker", name := "canBe", desc := "(I)Z" } : Jvm.MethodName)) ∈ lw_all := lw_g (lw_at lw_m1 112 rfl) rfl
theorem q140 : (Jvm.Cond.selects "CodeBreaker" ({ cls := "CodeBreaker", name := "canBe", desc := "(I)Z" } : Jvm.MethodName) ({ cls := "CodeBreaker", name := "canBe", desc := "(I)Z" } : Jvm.MethodName)) ∈ lw_all := lw_g (lw_at lw_m1 113 rfl) rfl
theorem q141 : (Jvm.Cond.code ({ cls := "CodeBreaker", name := "canBe", desc := "(I)Z" } : Jvm.MethodName) prog_1_method_13_code (2 : Nat) (Option.some Jvm.ClassFile.FieldType.boolean)) ∈ lw_all := lw_g (lw_at lw_m1 114 rfl) rfl
theorem q143 : (Jvm.Cond.instanceMethod ({ cls := "CodeBreaker", name := "parts", desc := "(I)I" } : Jvm.MethodName)) ∈ lw_all := lw_g (lw_at lw_m1 116 rfl) rfl
theorem q144 : (Jvm.Cond.selects "CodeBreaker" ({ cls := "CodeBreaker", name := "parts", desc := "(I)I" } : Jvm.MethodName) ({ cls := "CodeBreaker", name := "parts", desc := "(I)I" } : Jvm.MethodName)) ∈ lw_all := lw_g (lw_at lw_m1 117 rfl) rfl
theorem q145 : (Jvm.Cond.code ({ cls := "CodeBreaker", name := "parts", desc := "(I)I" } : Jvm.MethodName) prog_1_method_15_code (2 : Nat) (Option.some Jvm.ClassFile.FieldType.int)) ∈ lw_all := lw_g (lw_at lw_m1 118 rfl) rfl
theorem q146 : (Jvm.Cond.methodLink "CodeBreaker" (78 : Nat) ({ cls := "CodeBreaker", name := "partBy", desc := "(I)V" } : Jvm.MethodName)) ∈ lw_all := lw_g (lw_at lw_m1 119 rfl) rfl
theorem q147 : (Jvm.Cond.privateMethod ({ cls := "CodeBreaker", name := "partBy", desc := "(I)V" } : Jvm.MethodName)) ∈ lw_tbl := lw_at lw_m1 120 rfl
theorem q148 : (Jvm.Cond.instanceMethod ({ cls := "CodeBreaker", name := "partBy", desc := "(I)V" } : Jvm.MethodName)) ∈ lw_all := lw_g (lw_at lw_m1 121 rfl) rfl
theorem q149 : (Jvm.Cond.code ({ cls := "CodeBreaker", name := "partBy", desc := "(I)V" } : Jvm.MethodName) prog_1_method_14_code (4 : Nat) (Option.none : Option Jvm.ClassFile.FieldType)) ∈ lw_all := lw_g (lw_at lw_m1 122 rfl) rfl
theorem q151 : (Jvm.Cond.instanceMethod ({ cls := "CodeBreaker", name := "worst", desc := "(I)I" } : Jvm.MethodName)) ∈ lw_all := lw_g (lw_at lw_m1 124 rfl) rfl
theorem q152 : (Jvm.Cond.selects "CodeBreaker" ({ cls := "CodeBreaker", name := "worst", desc := "(I)I" } : Jvm.MethodName) ({ cls := "CodeBreaker", name := "worst", desc := "(I)I" } : Jvm.MethodName)) ∈ lw_all := lw_g (lw_at lw_m1 125 rfl) rfl
theorem q153 : (Jvm.Cond.code ({ cls := "CodeBreaker", name := "worst", desc := "(I)I" } : Jvm.MethodName) prog_1_method_16_code (2 : Nat) (Option.some Jvm.ClassFile.FieldType.int)) ∈ lw_all := lw_g (lw_at lw_m1 126 rfl) rfl
theorem q155 : (Jvm.Cond.instanceMethod ({ cls := "CodeBreaker", name := "weight", desc := "(I)I" } : Jvm.MethodName)) ∈ lw_all := lw_g (lw_at lw_m1 128 rfl) rfl
theorem q156 : (Jvm.Cond.selects "CodeBreaker" ({ cls := "CodeBreaker", name := "weight", desc := "(I)I" } : Jvm.MethodName) ({ cls := "CodeBreaker", name := "weight", desc := "(I)I" } : Jvm.MethodName)) ∈ lw_all := lw_g (lw_at lw_m1 129 rfl) rfl
theorem q157 : (Jvm.Cond.code ({ cls := "CodeBreaker", name := "weight", desc := "(I)I" } : Jvm.MethodName) prog_1_method_17_code (2 : Nat) (Option.some Jvm.ClassFile.FieldType.int)) ∈ lw_all := lw_g (lw_at lw_m1 130 rfl) rfl
theorem q159 : (Jvm.Cond.instanceMethod ({ cls := "CodeBreaker", name := "safest", desc := "()I" } : Jvm.MethodName)) ∈ lw_all := lw_g (lw_at lw_m1 132 rfl) rfl
theorem q160 : (Jvm.Cond.selects "CodeBreaker" ({ cls := "CodeBreaker", name := "safest", desc := "()I" } : Jvm.MethodName) ({ cls := "CodeBreaker", name := "safest", desc := "()I" } : Jvm.MethodName)) ∈ lw_all := lw_g (lw_at lw_m1 133 rfl) rfl
theorem q161 : (Jvm.Cond.code ({ cls := "CodeBreaker", name := "safest", desc := "()I" } : Jvm.MethodName) prog_1_method_19_code (1 : Nat) (Option.some Jvm.ClassFile.FieldType.int)) ∈ lw_all := lw_g (lw_at lw_m1 134 rfl) rfl
theorem q162 : (Jvm.Cond.methodLink "CodeBreaker" (83 : Nat) ({ cls := "CodeBreaker", name := "bestBy", desc := "(Z)I" } : Jvm.MethodName)) ∈ lw_all := lw_g (lw_at lw_m1 135 rfl) rfl
theorem q163 : (Jvm.Cond.privateMethod ({ cls := "CodeBreaker", name := "bestBy", desc := "(Z)I" } : Jvm.MethodName)) ∈ lw_tbl := lw_at lw_m1 136 rfl
theorem q164 : (Jvm.Cond.instanceMethod ({ cls := "CodeBreaker", name := "bestBy", desc := "(Z)I" } : Jvm.MethodName)) ∈ lw_all := lw_g (lw_at lw_m1 137 rfl) rfl
theorem q165 : (Jvm.Cond.code ({ cls := "CodeBreaker", name := "bestBy", desc := "(Z)I" } : Jvm.MethodName) prog_1_method_18_code (6 : Nat) (Option.some Jvm.ClassFile.FieldType.int)) ∈ lw_all := lw_g (lw_at lw_m1 138 rfl) rfl
theorem q166 : (Jvm.Cond.constant "CodeBreaker" (82 : Nat) (100000 : Int32)) ∈ lw_all := lw_g (lw_at lw_m1 139 rfl) rfl
theorem q168 : (Jvm.Cond.instanceMethod ({ cls := "CodeBreaker", name := "sharpest", desc := "()I" } : Jvm.MethodName)) ∈ lw_all := lw_g (lw_at lw_m1 141 rfl) rfl
theorem q169 : (Jvm.Cond.selects "CodeBreaker" ({ cls := "CodeBreaker", name := "sharpest", desc := "()I" } : Jvm.MethodName) ({ cls := "CodeBreaker", name := "sharpest", desc := "()I" } : Jvm.MethodName)) ∈ lw_all := lw_g (lw_at lw_m1 142 rfl) rfl
theorem q170 : (Jvm.Cond.code ({ cls := "CodeBreaker", name := "sharpest", desc := "()I" } : Jvm.MethodName) prog_1_method_20_code (1 : Nat) (Option.some Jvm.ClassFile.FieldType.int)) ∈ lw_all := lw_g (lw_at lw_m1 143 rfl) rfl
theorem q172 : (Jvm.Cond.instanceMethod ({ cls := "CodeBreaker", name := "need", desc := "()I" } : Jvm.MethodName)) ∈ lw_all := lw_g (lw_at lw_m1 145 rfl) rfl
theorem q173 : (Jvm.Cond.selects "CodeBreaker" ({ cls := "CodeBreaker", name := "need", desc := "()I" } : Jvm.MethodName) ({ cls := "CodeBreaker", name := "need", desc := "()I" } : Jvm.MethodName)) ∈ lw_all := lw_g (lw_at lw_m1 146 rfl) rfl
theorem q174 : (Jvm.Cond.code ({ cls := "CodeBreaker", name := "need", desc := "()I" } : Jvm.MethodName) prog_1_method_26_code (1 : Nat) (Option.some Jvm.ClassFile.FieldType.int)) ∈ lw_all := lw_g (lw_at lw_m1 147 rfl) rfl
theorem q175 : (Jvm.Cond.methodLink "CodeBreaker" (104 : Nat) ({ cls := "CodeBreaker", name := "needBy", desc := "(Z)I" } : Jvm.MethodName)) ∈ lw_all := lw_g (lw_at lw_m1 148 rfl) rfl
theorem q176 : (Jvm.Cond.privateMethod ({ cls := "CodeBreaker", name := "needBy", desc := "(Z)I" } : Jvm.MethodName)) ∈ lw_tbl := lw_at lw_m1 149 rfl
theorem q177 : (Jvm.Cond.instanceMethod ({ cls := "CodeBreaker", name := "needBy", desc := "(Z)I" } : Jvm.MethodName)) ∈ lw_all := lw_g (lw_at lw_m1 150 rfl) rfl
theorem q178 : (Jvm.Cond.code ({ cls := "CodeBreaker", name := "needBy", desc := "(Z)I" } : Jvm.MethodName) prog_1_method_25_code (3 : Nat) (Option.some Jvm.ClassFile.FieldType.int)) ∈ lw_all := lw_g (lw_at lw_m1 151 rfl) rfl
theorem q179 : (Jvm.Cond.methodLink "CodeBreaker" (97 : Nat) ({ cls := "CodeBreaker", name := "listFew", desc := "()V" } : Jvm.MethodName)) ∈ lw_all := lw_g (lw_at lw_m1 152 rfl) rfl
theorem q180 : (Jvm.Cond.privateMethod ({ cls := "CodeBreaker", name := "listFew", desc := "()V" } : Jvm.MethodName)) ∈ lw_tbl := lw_at lw_m1 153 rfl
theorem q181 : (Jvm.Cond.instanceMethod ({ cls := "CodeBreaker", name := "listFew", desc := "()V" } : Jvm.MethodName)) ∈ lw_all := lw_g (lw_at lw_m1 154 rfl) rfl
theorem q182 : (Jvm.Cond.code ({ cls := "CodeBreaker", name := "listFew", desc := "()V" } : Jvm.MethodName) prog_1_method_21_code (3 : Nat) (Option.none : Option Jvm.ClassFile.FieldType)) ∈ lw_all := lw_g (lw_at lw_m1 155 rfl) rfl
theorem q183 : (Jvm.Cond.methodLink "CodeBreaker" (100 : Nat) ({ cls := "CodeBreaker", name := "findNeeded", desc := "(Z)V" } : Jvm.MethodName)) ∈ lw_all := lw_g (lw_at lw_m1 156 rfl) rfl
theorem q184 : (Jvm.Cond.privateMethod ({ cls := "CodeBreaker", name := "findNeeded", desc := "(Z)V" } : Jvm.MethodName)) ∈ lw_tbl := lw_at lw_m1 157 rfl
theorem q185 : (Jvm.Cond.instanceMethod ({ cls := "CodeBreaker", name := "findNeeded", desc := "(Z)V" } : Jvm.MethodName)) ∈ lw_all := lw_g (lw_at lw_m1 158 rfl) rfl
theorem q186 : (Jvm.Cond.code ({ cls := "CodeBreaker", name := "findNeeded", desc := "(Z)V" } : Jvm.MethodName) prog_1_method_24_code (6 : Nat) (Option.none : Option Jvm.ClassFile.FieldType)) ∈ lw_all := lw_g (lw_at lw_m1 159 rfl) rfl
theorem q187 : (Jvm.Cond.methodLink "CodeBreaker" (90 : Nat) ({ cls := "CodeBreaker", name := "isOf", desc := "(II)Z" } : Jvm.MethodName)) ∈ lw_all := lw_g (lw_at lw_m1 160 rfl) rfl
theorem q188 : (Jvm.Cond.privateMethod ({ cls := "CodeBreaker", name := "isOf", desc := "(II)Z" } : Jvm.MethodName)) ∈ lw_tbl := lw_at lw_m1 161 rfl
theorem q189 : (Jvm.Cond.instanceMethod ({ cls := "CodeBreaker", name := "isOf", desc := "(II)Z" } : Jvm.MethodName)) ∈ lw_all := lw_g (lw_at lw_m1 162 rfl) rfl
theorem q190 : (Jvm.Cond.code ({ cls := "CodeBreaker", name := "isOf", desc := "(II)Z" } : Jvm.MethodName) prog_1_method_23_code (5 : Nat) (Option.some Jvm.ClassFile.FieldType.boolean)) ∈ lw_all := lw_g (lw_at lw_m1 163 rfl) rfl
theorem q191 : (Jvm.Cond.methodLink "CodeBreaker" (94 : Nat) ({ cls := "CodeBreaker", name := "neededWith", desc := "(II)I" } : Jvm.MethodName)) ∈ lw_all := lw_g (lw_at lw_m1 164 rfl) rfl
theorem q192 : (Jvm.Cond.privateMethod ({ cls := "CodeBreaker", name := "neededWith", desc := "(II)I" } : Jvm.MethodName)) ∈ lw_tbl := lw_at lw_m1 165 rfl
theorem q193 : (Jvm.Cond.instanceMethod ({ cls := "CodeBreaker", name := "neededWith", desc := "(II)I" } : Jvm.MethodName)) ∈ lw_all := lw_g (lw_at lw_m1 166 rfl) rfl
theorem q194 : (Jvm.Cond.code ({ cls := "CodeBreaker", name := "neededWith", desc := "(II)I" } : Jvm.MethodName) prog_1_method_22_code (9 : Nat) (Option.some Jvm.ClassFile.FieldType.int)) ∈ lw_all := lw_g (lw_at lw_m1 167 rfl) rfl
theorem q196 : (Jvm.Cond.instanceMethod ({ cls := "CodeBreaker", name := "needKept", desc := "()I" } : Jvm.MethodName)) ∈ lw_all := lw_g (lw_at lw_m1 169 rfl) rfl
theorem q197 : (Jvm.Cond.selects "CodeBreaker" ({ cls := "CodeBreaker", name := "needKept", desc := "()I" } : Jvm.MethodName) ({ cls := "CodeBreaker", name := "needKept", desc := "()I" } : Jvm.MethodName)) ∈ lw_all := lw_g (lw_at lw_m1 170 rfl) rfl
theorem q198 : (Jvm.Cond.code ({ cls := "CodeBreaker", name := "needKept", desc := "()I" } : Jvm.MethodName) prog_1_method_27_code (1 : Nat) (Option.some Jvm.ClassFile.FieldType.int)) ∈ lw_all := lw_g (lw_at lw_m1 171 rfl) rfl
theorem q200 : (Jvm.Cond.instanceMethod ({ cls := "CodeBreaker", name := "first", desc := "()I" } : Jvm.MethodName)) ∈ lw_all := lw_g (lw_at lw_m1 173 rfl) rfl
theorem q201 : (Jvm.Cond.selects "CodeBreaker" ({ cls := "CodeBreaker", name := "first", desc := "()I" } : Jvm.MethodName) ({ cls := "CodeBreaker", name := "first", desc := "()I" } : Jvm.MethodName)) ∈ lw_all := lw_g (lw_at lw_m1 174 rfl) rfl
theorem q202 : (Jvm.Cond.code ({ cls := "CodeBreaker", name := "first", desc := "()I" } : Jvm.MethodName) prog_1_method_28_code (4 : Nat) (Option.some Jvm.ClassFile.FieldType.int)) ∈ lw_all := lw_g (lw_at lw_m1 175 rfl) rfl
theorem q204 : (Jvm.Cond.instanceMethod ({ cls := "CodeBreaker", name := "useful", desc := "()I" } : Jvm.MethodName)) ∈ lw_all := lw_g (lw_at lw_m1 177 rfl) rfl
theorem q205 : (Jvm.Cond.selects "CodeBreaker" ({ cls := "CodeBreaker", name := "useful", desc := "()I" } : Jvm.MethodName) ({ cls := "CodeBreaker", name := "useful", desc := "()I" } : Jvm.MethodName)) ∈ lw_all := lw_g (lw_at lw_m1 178 rfl) rfl
theorem q206 : (Jvm.Cond.code ({ cls := "CodeBreaker", name := "useful", desc := "()I" } : Jvm.MethodName) prog_1_method_29_code (6 : Nat) (Option.some Jvm.ClassFile.FieldType.int)) ∈ lw_all := lw_g (lw_at lw_m1 179 rfl) rfl
theorem in_X1 : ∀ w ∈ wsX10, w ∈ lw_all := lw_in wsX10 [56, 58, 60, 62, 64, 66, 68, 70, 72, 74, 76, 78, 80, 82, 84, 86, 88, 90] (by decide +kernel) (by decide +kernel)
def RX2 : String := "CodeBreakerModel"
def TX2 : u_T := fun k => match k with
  | 0 => ("CodeBreakerModel", "length", "I", true)
  | 1 => ("CodeBreakerModel", "digits", "I", true)
  | 2 => ("CodeBreakerModel", "count", "I", true)
  | 3 => ("CodeBreakerModel", "guesses", "[I", true)
  | 4 => ("CodeBreakerModel", "answers", "[I", true)
  | 5 => ("CodeBreakerModel", "recorded", "I", false)
  | 6 => ("CodeBreakerModel", "few", "[I", true)
  | 7 => ("CodeBreakerModel", "fewCount", "I", false)
  | 8 => ("CodeBreakerModel", "enough", "[I", true)
  | 9 => ("CodeBreakerModel", "sizes", "[I", true)
  | _ => ("CodeBreakerModel", "table", "[I", true)
def tyX2 : Nat → FieldType := fun k => match k with
  | 0 => .int
  | 1 => .int
  | 2 => .int
  | 3 => .array .int
  | 4 => .array .int
  | 5 => .int
  | 6 => .array .int
  | 7 => .int
  | 8 => .array .int
  | 9 => .array .int
  | _ => .array .int
abbrev wsX20 : List Cond := u_ws RX2 TX2 11
theorem nmX2 : ∀ a, a < 11 → ∀ b, b < 11 → a ≠ b → (TX2 a).2.1 ≠ (TX2 b).2.1 := by decide +kernel
theorem tyX2_ok : ∀ k, k < 11 → parseFieldDescriptor (TX2 k).2.2.1 = some (tyX2 k) := by decide +kernel
abbrev cX2_init : ByteArray := prog_3_method_1_code
def yX2_init : MethodName := ⟨RX2, "<init>", "(II)V"⟩
abbrev cX2_compare : ByteArray := prog_3_method_7_code
def yX2_compare : MethodName := ⟨RX2, "compare", "(II)I"⟩
abbrev cX2_digitOf : ByteArray := prog_3_method_4_code
def yX2_digitOf : MethodName := ⟨RX2, "digitOf", "(II)I"⟩
abbrev cX2_times : ByteArray := prog_3_method_5_code
def yX2_times : MethodName := ⟨RX2, "times", "(II)I"⟩
abbrev cX2_codes : ByteArray := prog_3_method_3_code
def yX2_codes : MethodName := ⟨RX2, "codes", "()I"⟩
abbrev cX2_answer : ByteArray := prog_3_method_8_code
def yX2_answer : MethodName := ⟨RX2, "answer", "(II)I"⟩
abbrev cX2_isCode : ByteArray := prog_3_method_2_code
def yX2_isCode : MethodName := ⟨RX2, "isCode", "(I)Z"⟩
abbrev cX2_answerTo : ByteArray := prog_3_method_6_code
def yX2_answerTo : MethodName := ⟨RX2, "answerTo", "(II)I"⟩
abbrev cX2_tell : ByteArray := prog_3_method_11_code
def yX2_tell : MethodName := ⟨RX2, "tell", "(III)I"⟩
abbrev cX2_countPossible : ByteArray := prog_3_method_10_code
def yX2_countPossible : MethodName := ⟨RX2, "countPossible", "(I)I"⟩
abbrev cX2_agrees : ByteArray := prog_3_method_9_code
def yX2_agrees : MethodName := ⟨RX2, "agrees", "(II)Z"⟩
abbrev cX2_forget : ByteArray := prog_3_method_12_code
def yX2_forget : MethodName := ⟨RX2, "forget", "()I"⟩
abbrev cX2_told : ByteArray := prog_3_method_13_code
def yX2_told : MethodName := ⟨RX2, "told", "()I"⟩
abbrev cX2_possible : ByteArray := prog_3_method_14_code
def yX2_possible : MethodName := ⟨RX2, "possible", "()I"⟩
abbrev cX2_code : ByteArray := prog_3_method_15_code
def yX2_code : MethodName := ⟨RX2, "code", "(I)I"⟩
abbrev cX2_canBe : ByteArray := prog_3_method_16_code
def yX2_canBe : MethodName := ⟨RX2, "canBe", "(I)Z"⟩
abbrev cX2_parts : ByteArray := prog_3_method_18_code
def yX2_parts : MethodName := ⟨RX2, "parts", "(I)I"⟩
abbrev cX2_part : ByteArray := prog_3_method_17_code
def yX2_part : MethodName := ⟨RX2, "part", "(I)V"⟩
abbrev cX2_worst : ByteArray := prog_3_method_20_code
def yX2_worst : MethodName := ⟨RX2, "worst", "(I)I"⟩
abbrev cX2_worstOf : ByteArray := prog_3_method_19_code
def yX2_worstOf : MethodName := ⟨RX2, "worstOf", "(I)I"⟩
abbrev cX2_weight : ByteArray := prog_3_method_22_code
def yX2_weight : MethodName := ⟨RX2, "weight", "(I)I"⟩
abbrev cX2_weightOf : ByteArray := prog_3_method_21_code
def yX2_weightOf : MethodName := ⟨RX2, "weightOf", "(I)I"⟩
abbrev cX2_safest : ByteArray := prog_3_method_24_code
def yX2_safest : MethodName := ⟨RX2, "safest", "()I"⟩
abbrev cX2_best : ByteArray := prog_3_method_23_code
def yX2_best : MethodName := ⟨RX2, "best", "(Z)I"⟩
abbrev cX2_sharpest : ByteArray := prog_3_method_25_code
def yX2_sharpest : MethodName := ⟨RX2, "sharpest", "()I"⟩
abbrev cX2_need : ByteArray := prog_3_method_31_code
def yX2_need : MethodName := ⟨RX2, "need", "()I"⟩
abbrev cX2_solve : ByteArray := prog_3_method_30_code
def yX2_solve : MethodName := ⟨RX2, "solve", "(Z)I"⟩
abbrev cX2_canBeDone : ByteArray := prog_3_method_29_code
def yX2_canBeDone : MethodName := ⟨RX2, "canBeDone", "(IIZ)Z"⟩
abbrev cX2_isIn : ByteArray := prog_3_method_28_code
def yX2_isIn : MethodName := ⟨RX2, "isIn", "(II)Z"⟩
abbrev cX2_leaves : ByteArray := prog_3_method_27_code
def yX2_leaves : MethodName := ⟨RX2, "leaves", "(III)Z"⟩
abbrev cX2_partOf : ByteArray := prog_3_method_26_code
def yX2_partOf : MethodName := ⟨RX2, "partOf", "(III)I"⟩
abbrev cX2_needKept : ByteArray := prog_3_method_32_code
def yX2_needKept : MethodName := ⟨RX2, "needKept", "()I"⟩
abbrev cX2_first : ByteArray := prog_3_method_33_code
def yX2_first : MethodName := ⟨RX2, "first", "()I"⟩
abbrev cX2_useful : ByteArray := prog_3_method_34_code
def yX2_useful : MethodName := ⟨RX2, "useful", "()I"⟩
theorem q29 : (Jvm.Cond.initialized "CodeBreakerModel") ∈ lw_all := lw_g (lw_at lw_m1 2 rfl) rfl
theorem q211 : (Jvm.Cond.instantiable "CodeBreakerModel" (11 : Nat)) ∈ lw_all := lw_g (lw_at lw_m1 184 rfl) rfl
theorem q213 : (Jvm.Cond.instanceMethod ({ cls := "CodeBreakerModel", name := "<init>", desc := "(II)V" } : Jvm.MethodName)) ∈ lw_all := lw_g (lw_at lw_m1 186 rfl) rfl
theorem q214 : (Jvm.Cond.code ({ cls := "CodeBreakerModel", name := "<init>", desc := "(II)V" } : Jvm.MethodName) prog_3_method_1_code (5 : Nat) (Option.none : Option Jvm.ClassFile.FieldType)) ∈ lw_all := lw_g (lw_at lw_m1 187 rfl) rfl
theorem q215 : (Jvm.Cond.methodLink "CodeBreakerModel" (1 : Nat) ({ cls := "java/lang/Object", name := "<init>", desc := "()V" } : Jvm.MethodName)) ∈ lw_all := lw_g (lw_at lw_m1 188 rfl) rfl
theorem q216 : (Jvm.Cond.methodLink "CodeBreakerModel" (38 : Nat) ({ cls := "CodeBreakerModel", name := "compare", desc := "(II)I" } : Jvm.MethodName)) ∈ lw_all := lw_g (lw_at lw_m1 189 rfl) rfl
theorem q217 : (Jvm.Cond.privateMethod ({ cls := "CodeBreakerModel", name := "compare", desc := "(II)I" } : Jvm.MethodName)) ∈ lw_tbl := lw_at lw_m1 190 rfl
theorem q218 : (Jvm.Cond.instanceMethod ({ cls := "CodeBreakerModel", name := "compare", desc := "(II)I" } : Jvm.MethodName)) ∈ lw_all := lw_g (lw_at lw_m1 191 rfl) rfl
theorem q219 : (Jvm.Cond.code ({ cls := "CodeBreakerModel", name := "compare", desc := "(II)I" } : Jvm.MethodName) prog_3_method_7_code (8 : Nat) (Option.some Jvm.ClassFile.FieldType.int)) ∈ lw_all := lw_g (lw_at lw_m1 192 rfl) rfl
theorem q220 : (Jvm.Cond.methodLink "CodeBreakerModel" (42 : Nat) ({ cls := "CodeBreakerModel", name := "digitOf", desc := "(II)I" } : Jvm.MethodName)) ∈ lw_all := lw_g (lw_at lw_m1 193 rfl) rfl
theorem q221 : (Jvm.Cond.privateMethod ({ cls := "CodeBreakerModel", name := "digitOf", desc := "(II)I" } : Jvm.MethodName)) ∈ lw_tbl := lw_at lw_m1 194 rfl
theorem q222 : (Jvm.Cond.instanceMethod ({ cls := "CodeBreakerModel", name := "digitOf", desc := "(II)I" } : Jvm.MethodName)) ∈ lw_all := lw_g (lw_at lw_m1 195 rfl) rfl
theorem q223 : (Jvm.Cond.code ({ cls := "CodeBreakerModel", name := "digitOf", desc := "(II)I" } : Jvm.MethodName) prog_3_method_4_code (5 : Nat) (Option.some Jvm.ClassFile.FieldType.int)) ∈ lw_all := lw_g (lw_at lw_m1 196 rfl) rfl
theorem q224 : (Jvm.Cond.methodLink "CodeBreakerModel" (45 : Nat) ({ cls := "CodeBreakerModel", name := "times", desc := "(II)I" } : Jvm.MethodName)) ∈ lw_all := lw_g (lw_at lw_m1 197 rfl) rfl
theorem q225 : (Jvm.Cond.privateMethod ({ cls := "CodeBreakerModel", name := "times", desc := "(II)I" } : Jvm.MethodName)) ∈ lw_tbl := lw_at lw_m1 198 rfl
theorem q226 : (Jvm.Cond.instanceMethod ({ cls := "CodeBreakerModel", name := "times", desc := "(II)I" } : Jvm.MethodName)) ∈ lw_all := lw_g (lw_at lw_m1 199 rfl) rfl
theorem q227 : (Jvm.Cond.code ({ cls := "CodeBreakerModel", name := "times", desc := "(II)I" } : Jvm.MethodName) prog_3_method_5_code (5 : Nat) (Option.some Jvm.ClassFile.FieldType.int)) ∈ lw_all := lw_g (lw_at lw_m1 200 rfl) rfl
theorem q228 : (Jvm.Cond.fieldLink "CodeBreakerModel" (28 : Nat) "CodeBreakerModel" "length" "I") ∈ lw_all := lw_g (lw_at lw_m1 201 rfl) rfl
theorem q229 : (Jvm.Cond.fieldLink "CodeBreakerModel" (32 : Nat) "CodeBreakerModel" "digits" "I") ∈ lw_all := lw_g (lw_at lw_m1 202 rfl) rfl
theorem q230 : (Jvm.Cond.fieldLink "CodeBreakerModel" (35 : Nat) "CodeBreakerModel" "count" "I") ∈ lw_all := lw_g (lw_at lw_m1 203 rfl) rfl
theorem q231 : (Jvm.Cond.fieldLink "CodeBreakerModel" (7 : Nat) "CodeBreakerModel" "guesses" "[I") ∈ lw_all := lw_g (lw_at lw_m1 204 rfl) rfl
theorem q232 : (Jvm.Cond.fieldLink "CodeBreakerModel" (13 : Nat) "CodeBreakerModel" "answers" "[I") ∈ lw_all := lw_g (lw_at lw_m1 205 rfl) rfl
theorem q233 : (Jvm.Cond.fieldLink "CodeBreakerModel" (55 : Nat) "CodeBreakerModel" "recorded" "I") ∈ lw_all := lw_g (lw_at lw_m1 206 rfl) rfl
theorem q234 : (Jvm.Cond.fieldLink "CodeBreakerModel" (16 : Nat) "CodeBreakerModel" "few" "[I") ∈ lw_all := lw_g (lw_at lw_m1 207 rfl) rfl
theorem q235 : (Jvm.Cond.fieldLink "CodeBreakerModel" (80 : Nat) "CodeBreakerModel" "fewCount" "I") ∈ lw_all := lw_g (lw_at lw_m1 208 rfl) rfl
theorem q236 : (Jvm.Cond.fieldLink "CodeBreakerModel" (19 : Nat) "CodeBreakerModel" "enough" "[I") ∈ lw_all := lw_g (lw_at lw_m1 209 rfl) rfl
theorem q237 : (Jvm.Cond.fieldLink "CodeBreakerModel" (22 : Nat) "CodeBreakerModel" "sizes" "[I") ∈ lw_all := lw_g (lw_at lw_m1 210 rfl) rfl
theorem q238 : (Jvm.Cond.fieldLink "CodeBreakerModel" (25 : Nat) "CodeBreakerModel" "table" "[I") ∈ lw_all := lw_g (lw_at lw_m1 211 rfl) rfl
theorem q239 : (Jvm.Cond.laysFinal "CodeBreakerModel" "CodeBreakerModel" "length" "I") ∈ lw_all := lw_g (lw_at lw_m1 212 rfl) rfl
theorem q240 : (Jvm.Cond.soleField "CodeBreakerModel" "length") ∈ lw_all := lw_g (lw_at lw_m1 213 rfl) rfl
theorem q241 : (Jvm.Cond.laysFinal "CodeBreakerModel" "CodeBreakerModel" "digits" "I") ∈ lw_all := lw_g (lw_at lw_m1 214 rfl) rfl
theorem q242 : (Jvm.Cond.soleField "CodeBreakerModel" "digits") ∈ lw_all := lw_g (lw_at lw_m1 215 rfl) rfl
theorem q243 : (Jvm.Cond.laysFinal "CodeBreakerModel" "CodeBreakerModel" "count" "I") ∈ lw_all := lw_g (lw_at lw_m1 216 rfl) rfl
theorem q244 : (Jvm.Cond.soleField "CodeBreakerModel" "count") ∈ lw_all := lw_g (lw_at lw_m1 217 rfl) rfl
theorem q245 : (Jvm.Cond.laysFinal "CodeBreakerModel" "CodeBreakerModel" "guesses" "[I") ∈ lw_all := lw_g (lw_at lw_m1 218 rfl) rfl
theorem q246 : (Jvm.Cond.soleField "CodeBreakerModel" "guesses") ∈ lw_all := lw_g (lw_at lw_m1 219 rfl) rfl
theorem q247 : (Jvm.Cond.laysFinal "CodeBreakerModel" "CodeBreakerModel" "answers" "[I") ∈ lw_all := lw_g (lw_at lw_m1 220 rfl) rfl
theorem q248 : (Jvm.Cond.soleField "CodeBreakerModel" "answers") ∈ lw_all := lw_g (lw_at lw_m1 221 rfl) rfl
theorem q249 : (Jvm.Cond.lays "CodeBreakerModel" "CodeBreakerModel" "recorded" "I") ∈ lw_all := lw_g (lw_at lw_m1 222 rfl) rfl
theorem q250 : (Jvm.Cond.soleField "CodeBreakerModel" "recorded") ∈ lw_all := lw_g (lw_at lw_m1 223 rfl) rfl
theorem q251 : (Jvm.Cond.laysFinal "CodeBreakerModel" "CodeBreakerModel" "few" "[I") ∈ lw_all := lw_g (lw_at lw_m1 224 rfl) rfl
theorem q252 : (Jvm.Cond.soleField "CodeBreakerModel" "few") ∈ lw_all := lw_g (lw_at lw_m1 225 rfl) rfl
theorem q253 : (Jvm.Cond.lays "CodeBreakerModel" "CodeBreakerModel" "fewCount" "I") ∈ lw_all := lw_g (lw_at lw_m1 226 rfl) rfl
theorem q254 : (Jvm.Cond.soleField "CodeBreakerModel" "fewCount") ∈ lw_all := lw_g (lw_at lw_m1 227 rfl) rfl
theorem q255 : (Jvm.Cond.laysFinal "CodeBreakerModel" "CodeBreakerModel" "enough" "[I") ∈ lw_all := lw_g (lw_at lw_m1 228 rfl) rfl
theorem q256 : (Jvm.Cond.soleField "CodeBreakerModel" "enough") ∈ lw_all := lw_g (lw_at lw_m1 229 rfl) rfl
theorem q257 : (Jvm.Cond.laysFinal "CodeBreakerModel" "CodeBreakerModel" "sizes" "[I") ∈ lw_all := lw_g (lw_at lw_m1 230 rfl) rfl
theorem q258 : (Jvm.Cond.soleField "CodeBreakerModel" "sizes") ∈ lw_all := lw_g (lw_at lw_m1 231 rfl) rfl
theorem q259 : (Jvm.Cond.laysFinal "CodeBreakerModel" "CodeBreakerModel" "table" "[I") ∈ lw_all := lw_g (lw_at lw_m1 232 rfl) rfl
theorem q260 : (Jvm.Cond.soleField "CodeBreakerModel" "table") ∈ lw_all := lw_g (lw_at lw_m1 233 rfl) rfl
theorem q261 : (Jvm.Cond.superclass "CodeBreakerModel" "java/lang/Object") ∈ lw_all := lw_g (lw_at lw_m1 234 rfl) rfl
theorem q263 : (Jvm.Cond.instanceMethod ({ cls := "CodeBreakerModel", name := "codes", desc := "()I" } : Jvm.MethodName)) ∈ lw_all := lw_g (lw_at lw_m1 236 rfl) rfl
theorem q264 : (Jvm.Cond.selects "CodeBreakerModel" ({ cls := "CodeBreakerModel", name := "codes", desc := "()I" } : Jvm.MethodName) ({ cls := "CodeBreakerModel", name := "codes", desc := "()I" } : Jvm.MethodName)) ∈ lw_all := lw_g (lw_at lw_m1 237 rfl) rfl
theorem q265 : (Jvm.Cond.code ({ cls := "CodeBreakerModel", name := "codes", desc := "()I" } : Jvm.MethodName) prog_3_method_3_code (1 : Nat) (Option.some Jvm.ClassFile.FieldType.int)) ∈ lw_all := lw_g (lw_at lw_m1 238 rfl) rfl
theorem q267 : (Jvm.Cond.instanceMethod ({ cls := "CodeBreakerModel", name := "answer", desc := "(II)I" } : Jvm.MethodName)) ∈ lw_all := lw_g (lw_at lw_m2 0 rfl) rfl
theorem q268 : (Jvm.Cond.selects "CodeBreakerModel" ({ cls := "CodeBreakerModel", name := "answer", desc := "(II)I" } : Jvm.MethodName) ({ cls := "CodeBreakerModel", name := "answer", desc := "(II)I" } : Jvm.MethodName)) ∈ lw_all := lw_g (lw_at lw_m2 1 rfl) rfl
theorem q269 : (Jvm.Cond.code ({ cls := "CodeBreakerModel", name := "answer", desc := "(II)I" } : Jvm.MethodName) prog_3_method_8_code (3 : Nat) (Option.some Jvm.ClassFile.FieldType.int)) ∈ lw_all := lw_g (lw_at lw_m2 2 rfl) rfl
theorem q270 : (Jvm.Cond.methodLink "CodeBreakerModel" (48 : Nat) ({ cls := "CodeBreakerModel", name := "isCode", desc := "(I)Z" } : Jvm.MethodName)) ∈ lw_all := lw_g (lw_at lw_m2 3 rfl) rfl
theorem q271 : (Jvm.Cond.privateMethod ({ cls := "CodeBreakerModel", name := "isCode", desc := "(I)Z" } : Jvm.MethodName)) ∈ lw_tbl := lw_at lw_m2 4 rfl
theorem q272 : (Jvm.Cond.instanceMethod ({ cls := "CodeBreakerModel", name := "isCode", desc := "(I)Z" } : Jvm.MethodName)) ∈ lw_all := lw_g (lw_at lw_m2 5 rfl) rfl
theorem q273 : (Jvm.Cond.code ({ cls := "CodeBreakerModel", name := "isCode", desc := "(I)Z" } : Jvm.MethodName) prog_3_method_2_code (2 : Nat) (Option.some Jvm.ClassFile.FieldType.boolean)) ∈ lw_all := lw_g (lw_at lw_m2 6 rfl) rfl
theorem q274 : (Jvm.Cond.methodLink "CodeBreakerModel" (52 : Nat) ({ cls := "CodeBreakerModel", name := "answerTo", desc := "(II)I" } : Jvm.MethodName)) ∈ lw_all := lw_g (lw_at lw_m2 7 rfl) rfl
theorem q275 : (Jvm.Cond.privateMethod ({ cls := "CodeBreakerModel", name := "answerTo", desc := "(II)I" } : Jvm.MethodName)) ∈ lw_tbl := lw_at lw_m2 8 rfl
theorem q276 : (Jvm.Cond.instanceMethod ({ cls := "CodeBreakerModel", name := "answerTo", desc := "(II)I" } : Jvm.MethodName)) ∈ lw_all := lw_g (lw_at lw_m2 9 rfl) rfl
theorem q277 : (Jvm.Cond.code ({ cls := "CodeBreakerModel", name := "answerTo", desc := "(II)I" } : Jvm.MethodName) prog_3_method_6_code (3 : Nat) (Option.some Jvm.ClassFile.FieldType.int)) ∈ lw_all := lw_g (lw_at lw_m2 10 rfl) rfl
theorem q279 : (Jvm.Cond.instanceMethod ({ cls := "CodeBreakerModel", name := "tell", desc := "(III)I" } : Jvm.MethodName)) ∈ lw_all := lw_g (lw_at lw_m2 12 rfl) rfl
theorem q280 : (Jvm.Cond.selects "CodeBreakerModel" ({ cls := "CodeBreakerModel", name := "tell", desc := "(III)I" } : Jvm.MethodName) ({ cls := "CodeBreakerModel", name := "tell", desc := "(III)I" } : Jvm.MethodName)) ∈ lw_all := lw_g (lw_at lw_m2 13 rfl) rfl
theorem q281 : (Jvm.Cond.code ({ cls := "CodeBreakerModel", name := "tell", desc := "(III)I" } : Jvm.MethodName) prog_3_method_11_code (4 : Nat) (Option.some Jvm.ClassFile.FieldType.int)) ∈ lw_all := lw_g (lw_at lw_m2 14 rfl) rfl
theorem q282 : (Jvm.Cond.methodLink "CodeBreakerModel" (62 : Nat) ({ cls := "CodeBreakerModel", name := "countPossible", desc := "(I)I" } : Jvm.MethodName)) ∈ lw_all := lw_g (lw_at lw_m2 15 rfl) rfl
theorem q283 : (Jvm.Cond.privateMethod ({ cls := "CodeBreakerModel", name := "countPossible", desc := "(I)I" } : Jvm.MethodName)) ∈ lw_tbl := lw_at lw_m2 16 rfl
theorem q284 : (Jvm.Cond.instanceMethod ({ cls := "CodeBreakerModel", name := "countPossible", desc := "(I)I" } : Jvm.MethodName)) ∈ lw_all := lw_g (lw_at lw_m2 17 rfl) rfl
theorem q285 : (Jvm.Cond.code ({ cls := "CodeBreakerModel", name := "countPossible", desc := "(I)I" } : Jvm.MethodName) prog_3_method_10_code (4 : Nat) (Option.some Jvm.ClassFile.FieldType.int)) ∈ lw_all := lw_g (lw_at lw_m2 18 rfl) rfl
theorem q286 : (Jvm.Cond.methodLink "CodeBreakerModel" (58 : Nat) ({ cls := "CodeBreakerModel", name := "agrees", desc := "(II)Z" } : Jvm.MethodName)) ∈ lw_all := lw_g (lw_at lw_m2 19 rfl) rfl
theorem q287 : (Jvm.Cond.privateMethod ({ cls := "CodeBreakerModel", name := "agrees", desc := "(II)Z" } : Jvm.MethodName)) ∈ lw_tbl := lw_at lw_m2 20 rfl
theorem q288 : (Jvm.Cond.instanceMethod ({ cls := "CodeBreakerModel", name := "agrees", desc := "(II)Z" } : Jvm.MethodName)) ∈ lw_all := lw_g (lw_at lw_m2 21 rfl) rfl
theorem q289 : (Jvm.Cond.code ({ cls := "CodeBreakerModel", name := "agrees", desc := "(II)Z" } : Jvm.MethodName) prog_3_method_9_code (4 : Nat) (Option.some Jvm.ClassFile.FieldType.boolean)) ∈ lw_all := lw_g (lw_at lw_m2 22 rfl) rfl
theorem q291 : (Jvm.Cond.instanceMethod ({ cls := "CodeBreakerModel", name := "forget", desc := "()I" } : Jvm.MethodName)) ∈ lw_all := lw_g (lw_at lw_m2 24 rfl) rfl
theorem q292 : (Jvm.Cond.selects "CodeBreakerModel" ({ cls := "CodeBreakerModel", name := "forget", desc := "()I" } : Jvm.MethodName) ({ cls := "CodeBreakerModel", name := "forget", desc := "()I" } : Jvm.MethodName)) ∈ lw_all := lw_g (lw_at lw_m2 25 rfl) rfl
theorem q293 : (Jvm.Cond.code ({ cls := "CodeBreakerModel", name := "forget", desc := "()I" } : Jvm.MethodName) prog_3_method_12_code (1 : Nat) (Option.some Jvm.ClassFile.FieldType.int)) ∈ lw_all := lw_g (lw_at lw_m2 26 rfl) rfl
theorem q295 : (Jvm.Cond.instanceMethod ({ cls := "CodeBreakerModel", name := "told", desc := "()I" } : Jvm.MethodName)) ∈ lw_all := lw_g (lw_at lw_m2 28 rfl) rfl
theorem q296 : (Jvm.Cond.selects "CodeBreakerModel" ({ cls := "CodeBreakerModel", name := "told", desc := "()I" } : Jvm.MethodName) ({ cls := "CodeBreakerModel", name := "told", desc := "()I" } : Jvm.MethodName)) ∈ lw_all := lw_g (lw_at lw_m2 29 rfl) rfl
theorem q297 : (Jvm.Cond.code ({ cls := "CodeBreakerModel", name := "told", desc := "()I" } : Jvm.MethodName) prog_3_method_13_code (1 : Nat) (Option.some Jvm.ClassFile.FieldType.int)) ∈ lw_all := lw_g (lw_at lw_m2 30 rfl) rfl
theorem q299 : (Jvm.Cond.instanceMethod ({ cls := "CodeBreakerModel", name := "possible", desc := "()I" } : Jvm.MethodName)) ∈ lw_all := lw_g (lw_at lw_m2 32 rfl) rfl
theorem q300 : (Jvm.Cond.selects "CodeBreakerModel" ({ cls := "CodeBreakerModel", name := "possible", desc := "()I" } : Jvm.MethodName) ({ cls := "CodeBreakerModel", name := "possible", desc := "()I" } : Jvm.MethodName)) ∈ lw_all := lw_g (lw_at lw_m2 33 rfl) rfl
theorem q301 : (Jvm.Cond.code ({ cls := "CodeBreakerModel", name := "possible", desc := "()I" } : Jvm.MethodName) prog_3_method_14_code (1 : Nat) (Option.some Jvm.ClassFile.FieldType.int)) ∈ lw_all := lw_g (lw_at lw_m2 34 rfl) rfl
theorem q303 : (Jvm.Cond.instanceMethod ({ cls := "CodeBreakerModel", name := "code", desc := "(I)I" } : Jvm.MethodName)) ∈ lw_all := lw_g (lw_at lw_m2 36 rfl) rfl
theorem q304 : (Jvm.Cond.selects "CodeBreakerModel" ({ cls := "CodeBreakerModel", name := "code", desc := "(I)I" } : Jvm.MethodName) ({ cls := "CodeBreakerModel", name := "code", desc := "(I)I" } : Jvm.MethodName)) ∈ lw_all := lw_g (lw_at lw_m2 37 rfl) rfl
theorem q305 : (Jvm.Cond.code ({ cls := "CodeBreakerModel", name := "code", desc := "(I)I" } : Jvm.MethodName) prog_3_method_15_code (4 : Nat) (Option.some Jvm.ClassFile.FieldType.int)) ∈ lw_all := lw_g (lw_at lw_m2 38 rfl) rfl
theorem q307 : (Jvm.Cond.instanceMethod ({ cls := "CodeBreakerModel", name := "canBe", desc := "(I)Z" } : Jvm.MethodName)) ∈ lw_all := lw_g (lw_at lw_m2 40 rfl) rfl
theorem q308 : (Jvm.Cond.selects "CodeBreakerModel" ({ cls := "CodeBreakerModel", name := "canBe", desc := "(I)Z" } : Jvm.MethodName) ({ cls := "CodeBreakerModel", name := "canBe", desc := "(I)Z" } : Jvm.MethodName)) ∈ lw_all := lw_g (lw_at lw_m2 41 rfl) rfl
theorem q309 : (Jvm.Cond.code ({ cls := "CodeBreakerModel", name := "canBe", desc := "(I)Z" } : Jvm.MethodName) prog_3_method_16_code (2 : Nat) (Option.some Jvm.ClassFile.FieldType.boolean)) ∈ lw_all := lw_g (lw_at lw_m2 42 rfl) rfl
theorem q311 : (Jvm.Cond.instanceMethod ({ cls := "CodeBreakerModel", name := "parts", desc := "(I)I" } : Jvm.MethodName)) ∈ lw_all := lw_g (lw_at lw_m2 44 rfl) rfl
theorem q312 : (Jvm.Cond.selects "CodeBreakerModel" ({ cls := "CodeBreakerModel", name := "parts", desc := "(I)I" } : Jvm.MethodName) ({ cls := "CodeBreakerModel", name := "parts", desc := "(I)I" } : Jvm.MethodName)) ∈ lw_all := lw_g (lw_at lw_m2 45 rfl) rfl
theorem q313 : (Jvm.Cond.code ({ cls := "CodeBreakerModel", name := "parts", desc := "(I)I" } : Jvm.MethodName) prog_3_method_18_code (4 : Nat) (Option.some Jvm.ClassFile.FieldType.int)) ∈ lw_all := lw_g (lw_at lw_m2 46 rfl) rfl
theorem q314 : (Jvm.Cond.methodLink "CodeBreakerModel" (66 : Nat) ({ cls := "CodeBreakerModel", name := "part", desc := "(I)V" } : Jvm.MethodName)) ∈ lw_all := lw_g (lw_at lw_m2 47 rfl) rfl
theorem q315 : (Jvm.Cond.privateMethod ({ cls := "CodeBreakerModel", name := "part", desc := "(I)V" } : Jvm.MethodName)) ∈ lw_tbl := lw_at lw_m2 48 rfl
theorem q316 : (Jvm.Cond.instanceMethod ({ cls := "CodeBreakerModel", name := "part", desc := "(I)V" } : Jvm.MethodName)) ∈ lw_all := lw_g (lw_at lw_m2 49 rfl) rfl
theorem q317 : (Jvm.Cond.code ({ cls := "CodeBreakerModel", name := "part", desc := "(I)V" } : Jvm.MethodName) prog_3_method_17_code (3 : Nat) (Option.none : Option Jvm.ClassFile.FieldType)) ∈ lw_all := lw_g (lw_at lw_m2 50 rfl) rfl
theorem q319 : (Jvm.Cond.instanceMethod ({ cls := "CodeBreakerModel", name := "worst", desc := "(I)I" } : Jvm.MethodName)) ∈ lw_all := lw_g (lw_at lw_m2 52 rfl) rfl
theorem q320 : (Jvm.Cond.selects "CodeBreakerModel" ({ cls := "CodeBreakerModel", name := "worst", desc := "(I)I" } : Jvm.MethodName) ({ cls := "CodeBreakerModel", name := "worst", desc := "(I)I" } : Jvm.MethodName)) ∈ lw_all := lw_g (lw_at lw_m2 53 rfl) rfl
theorem q321 : (Jvm.Cond.code ({ cls := "CodeBreakerModel", name := "worst", desc := "(I)I" } : Jvm.MethodName) prog_3_method_20_code (2 : Nat) (Option.some Jvm.ClassFile.FieldType.int)) ∈ lw_all := lw_g (lw_at lw_m2 54 rfl) rfl
theorem q322 : (Jvm.Cond.methodLink "CodeBreakerModel" (70 : Nat) ({ cls := "CodeBreakerModel", name := "worstOf", desc := "(I)I" } : Jvm.MethodName)) ∈ lw_all := lw_g (lw_at lw_m2 55 rfl) rfl
theorem q323 : (Jvm.Cond.privateMethod ({ cls := "CodeBreakerModel", name := "worstOf", desc := "(I)I" } : Jvm.MethodName)) ∈ lw_tbl := lw_at lw_m2 56 rfl
theorem q324 : (Jvm.Cond.instanceMethod ({ cls := "CodeBreakerModel", name := "worstOf", desc := "(I)I" } : Jvm.MethodName)) ∈ lw_all := lw_g (lw_at lw_m2 57 rfl) rfl
theorem q325 : (Jvm.Cond.code ({ cls := "CodeBreakerModel", name := "worstOf", desc := "(I)I" } : Jvm.MethodName) prog_3_method_19_code (4 : Nat) (Option.some Jvm.ClassFile.FieldType.int)) ∈ lw_all := lw_g (lw_at lw_m2 58 rfl) rfl
theorem q327 : (Jvm.Cond.instanceMethod ({ cls := "CodeBreakerModel", name := "weight", desc := "(I)I" } : Jvm.MethodName)) ∈ lw_all := lw_g (lw_at lw_m2 60 rfl) rfl
theorem q328 : (Jvm.Cond.selects "CodeBreakerModel" ({ cls := "CodeBreakerModel", name := "weight", desc := "(I)I" } : Jvm.MethodName) ({ cls := "CodeBreakerModel", name := "weight", desc := "(I)I" } : Jvm.MethodName)) ∈ lw_all := lw_g (lw_at lw_m2 61 rfl) rfl
theorem q329 : (Jvm.Cond.code ({ cls := "CodeBreakerModel", name := "weight", desc := "(I)I" } : Jvm.MethodName) prog_3_method_22_code (2 : Nat) (Option.some Jvm.ClassFile.FieldType.int)) ∈ lw_all := lw_g (lw_at lw_m2 62 rfl) rfl
theorem q330 : (Jvm.Cond.methodLink "CodeBreakerModel" (73 : Nat) ({ cls := "CodeBreakerModel", name := "weightOf", desc := "(I)I" } : Jvm.MethodName)) ∈ lw_all := lw_g (lw_at lw_m2 63 rfl) rfl
theorem q331 : (Jvm.Cond.privateMethod ({ cls := "CodeBreakerModel", name := "weightOf", desc := "(I)I" } : Jvm.MethodName)) ∈ lw_tbl := lw_at lw_m2 64 rfl
theorem q332 : (Jvm.Cond.instanceMethod ({ cls := "CodeBreakerModel", name := "weightOf", desc := "(I)I" } : Jvm.MethodName)) ∈ lw_all := lw_g (lw_at lw_m2 65 rfl) rfl
theorem q333 : (Jvm.Cond.code ({ cls := "CodeBreakerModel", name := "weightOf", desc := "(I)I" } : Jvm.MethodName) prog_3_method_21_code (4 : Nat) (Option.some Jvm.ClassFile.FieldType.int)) ∈ lw_all := lw_g (lw_at lw_m2 66 rfl) rfl
theorem q335 : (Jvm.Cond.instanceMethod ({ cls := "CodeBreakerModel", name := "safest", desc := "()I" } : Jvm.MethodName)) ∈ lw_all := lw_g (lw_at lw_m2 68 rfl) rfl
theorem q336 : (Jvm.Cond.selects "CodeBreakerModel" ({ cls := "CodeBreakerModel", name := "safest", desc := "()I" } : Jvm.MethodName) ({ cls := "CodeBreakerModel", name := "safest", desc := "()I" } : Jvm.MethodName)) ∈ lw_all := lw_g (lw_at lw_m2 69 rfl) rfl
theorem q337 : (Jvm.Cond.code ({ cls := "CodeBreakerModel", name := "safest", desc := "()I" } : Jvm.MethodName) prog_3_method_24_code (1 : Nat) (Option.some Jvm.ClassFile.FieldType.int)) ∈ lw_all := lw_g (lw_at lw_m2 70 rfl) rfl
theorem q338 : (Jvm.Cond.methodLink "CodeBreakerModel" (76 : Nat) ({ cls := "CodeBreakerModel", name := "best", desc := "(Z)I" } : Jvm.MethodName)) ∈ lw_all := lw_g (lw_at lw_m2 71 rfl) rfl
theorem q339 : (Jvm.Cond.privateMethod ({ cls := "CodeBreakerModel", name := "best", desc := "(Z)I" } : Jvm.MethodName)) ∈ lw_tbl := lw_at lw_m2 72 rfl
theorem q340 : (Jvm.Cond.instanceMethod ({ cls := "CodeBreakerModel", name := "best", desc := "(Z)I" } : Jvm.MethodName)) ∈ lw_all := lw_g (lw_at lw_m2 73 rfl) rfl
theorem q341 : (Jvm.Cond.code ({ cls := "CodeBreakerModel", name := "best", desc := "(Z)I" } : Jvm.MethodName) prog_3_method_23_code (6 : Nat) (Option.some Jvm.ClassFile.FieldType.int)) ∈ lw_all := lw_g (lw_at lw_m2 74 rfl) rfl
theorem q343 : (Jvm.Cond.instanceMethod ({ cls := "CodeBreakerModel", name := "sharpest", desc := "()I" } : Jvm.MethodName)) ∈ lw_all := lw_g (lw_at lw_m2 76 rfl) rfl
theorem q344 : (Jvm.Cond.selects "CodeBreakerModel" ({ cls := "CodeBreakerModel", name := "sharpest", desc := "()I" } : Jvm.MethodName) ({ cls := "CodeBreakerModel", name := "sharpest", desc := "()I" } : Jvm.MethodName)) ∈ lw_all := lw_g (lw_at lw_m2 77 rfl) rfl
theorem q345 : (Jvm.Cond.code ({ cls := "CodeBreakerModel", name := "sharpest", desc := "()I" } : Jvm.MethodName) prog_3_method_25_code (1 : Nat) (Option.some Jvm.ClassFile.FieldType.int)) ∈ lw_all := lw_g (lw_at lw_m2 78 rfl) rfl
theorem q347 : (Jvm.Cond.instanceMethod ({ cls := "CodeBreakerModel", name := "need", desc := "()I" } : Jvm.MethodName)) ∈ lw_all := lw_g (lw_at lw_m2 80 rfl) rfl
theorem q348 : (Jvm.Cond.selects "CodeBreakerModel" ({ cls := "CodeBreakerModel", name := "need", desc := "()I" } : Jvm.MethodName) ({ cls := "CodeBreakerModel", name := "need", desc := "()I" } : Jvm.MethodName)) ∈ lw_all := lw_g (lw_at lw_m2 81 rfl) rfl
theorem q349 : (Jvm.Cond.code ({ cls := "CodeBreakerModel", name := "need", desc := "()I" } : Jvm.MethodName) prog_3_method_31_code (1 : Nat) (Option.some Jvm.ClassFile.FieldType.int)) ∈ lw_all := lw_g (lw_at lw_m2 82 rfl) rfl
theorem q350 : (Jvm.Cond.methodLink "CodeBreakerModel" (98 : Nat) ({ cls := "CodeBreakerModel", name := "solve", desc := "(Z)I" } : Jvm.MethodName)) ∈ lw_all := lw_g (lw_at lw_m2 83 rfl) rfl
theorem q351 : (Jvm.Cond.privateMethod ({ cls := "CodeBreakerModel", name := "solve", desc := "(Z)I" } : Jvm.MethodName)) ∈ lw_tbl := lw_at lw_m2 84 rfl
theorem q352 : (Jvm.Cond.instanceMethod ({ cls := "CodeBreakerModel", name := "solve", desc := "(Z)I" } : Jvm.MethodName)) ∈ lw_all := lw_g (lw_at lw_m2 85 rfl) rfl
theorem q353 : (Jvm.Cond.code ({ cls := "CodeBreakerModel", name := "solve", desc := "(Z)I" } : Jvm.MethodName) prog_3_method_30_code (7 : Nat) (Option.some Jvm.ClassFile.FieldType.int)) ∈ lw_all := lw_g (lw_at lw_m2 86 rfl) rfl
theorem q354 : (Jvm.Cond.methodLink "CodeBreakerModel" (94 : Nat) ({ cls := "CodeBreakerModel", name := "canBeDone", desc := "(IIZ)Z" } : Jvm.MethodName)) ∈ lw_all := lw_g (lw_at lw_m2 87 rfl) rfl
theorem q355 : (Jvm.Cond.privateMethod ({ cls := "CodeBreakerModel", name := "canBeDone", desc := "(IIZ)Z" } : Jvm.MethodName)) ∈ lw_tbl := lw_at lw_m2 88 rfl
theorem q356 : (Jvm.Cond.instanceMethod ({ cls := "CodeBreakerModel", name := "canBeDone", desc := "(IIZ)Z" } : Jvm.MethodName)) ∈ lw_all := lw_g (lw_at lw_m2 89 rfl) rfl
theorem q357 : (Jvm.Cond.code ({ cls := "CodeBreakerModel", name := "canBeDone", desc := "(IIZ)Z" } : Jvm.MethodName) prog_3_method_29_code (5 : Nat) (Option.some Jvm.ClassFile.FieldType.boolean)) ∈ lw_all := lw_g (lw_at lw_m2 90 rfl) rfl
theorem q358 : (Jvm.Cond.methodLink "CodeBreakerModel" (87 : Nat) ({ cls := "CodeBreakerModel", name := "isIn", desc := "(II)Z" } : Jvm.MethodName)) ∈ lw_all := lw_g (lw_at lw_m2 91 rfl) rfl
theorem q359 : (Jvm.Cond.privateMethod ({ cls := "CodeBreakerModel", name := "isIn", desc := "(II)Z" } : Jvm.MethodName)) ∈ lw_tbl := lw_at lw_m2 92 rfl
theorem q360 : (Jvm.Cond.instanceMethod ({ cls := "CodeBreakerModel", name := "isIn", desc := "(II)Z" } : Jvm.MethodName)) ∈ lw_all := lw_g (lw_at lw_m2 93 rfl) rfl
theorem q361 : (Jvm.Cond.code ({ cls := "CodeBreakerModel", name := "isIn", desc := "(II)Z" } : Jvm.MethodName) prog_3_method_28_code (4 : Nat) (Option.some Jvm.ClassFile.FieldType.boolean)) ∈ lw_all := lw_g (lw_at lw_m2 94 rfl) rfl
theorem q362 : (Jvm.Cond.methodLink "CodeBreakerModel" (90 : Nat) ({ cls := "CodeBreakerModel", name := "leaves", desc := "(III)Z" } : Jvm.MethodName)) ∈ lw_all := lw_g (lw_at lw_m2 95 rfl) rfl
theorem q363 : (Jvm.Cond.privateMethod ({ cls := "CodeBreakerModel", name := "leaves", desc := "(III)Z" } : Jvm.MethodName)) ∈ lw_tbl := lw_at lw_m2 96 rfl
theorem q364 : (Jvm.Cond.instanceMethod ({ cls := "CodeBreakerModel", name := "leaves", desc := "(III)Z" } : Jvm.MethodName)) ∈ lw_all := lw_g (lw_at lw_m2 97 rfl) rfl
theorem q365 : (Jvm.Cond.code ({ cls := "CodeBreakerModel", name := "leaves", desc := "(III)Z" } : Jvm.MethodName) prog_3_method_27_code (8 : Nat) (Option.some Jvm.ClassFile.FieldType.boolean)) ∈ lw_all := lw_g (lw_at lw_m2 98 rfl) rfl
theorem q366 : (Jvm.Cond.methodLink "CodeBreakerModel" (83 : Nat) ({ cls := "CodeBreakerModel", name := "partOf", desc := "(III)I" } : Jvm.MethodName)) ∈ lw_all := lw_g (lw_at lw_m2 99 rfl) rfl
theorem q367 : (Jvm.Cond.privateMethod ({ cls := "CodeBreakerModel", name := "partOf", desc := "(III)I" } : Jvm.MethodName)) ∈ lw_tbl := lw_at lw_m2 100 rfl
theorem q368 : (Jvm.Cond.instanceMethod ({ cls := "CodeBreakerModel", name := "partOf", desc := "(III)I" } : Jvm.MethodName)) ∈ lw_all := lw_g (lw_at lw_m2 101 rfl) rfl
theorem q369 : (Jvm.Cond.code ({ cls := "CodeBreakerModel", name := "partOf", desc := "(III)I" } : Jvm.MethodName) prog_3_method_26_code (7 : Nat) (Option.some Jvm.ClassFile.FieldType.int)) ∈ lw_all := lw_g (lw_at lw_m2 102 rfl) rfl
theorem q371 : (Jvm.Cond.instanceMethod ({ cls := "CodeBreakerModel", name := "needKept", desc := "()I" } : Jvm.MethodName)) ∈ lw_all := lw_g (lw_at lw_m2 104 rfl) rfl
theorem q372 : (Jvm.Cond.selects "CodeBreakerModel" ({ cls := "CodeBreakerModel", name := "needKept", desc := "()I" } : Jvm.MethodName) ({ cls := "CodeBreakerModel", name := "needKept", desc := "()I" } : Jvm.MethodName)) ∈ lw_all := lw_g (lw_at lw_m2 105 rfl) rfl
theorem q373 : (Jvm.Cond.code ({ cls := "CodeBreakerModel", name := "needKept", desc := "()I" } : Jvm.MethodName) prog_3_method_32_code (1 : Nat) (Option.some Jvm.ClassFile.FieldType.int)) ∈ lw_all := lw_g (lw_at lw_m2 106 rfl) rfl
theorem q375 : (Jvm.Cond.instanceMethod ({ cls := "CodeBreakerModel", name := "first", desc := "()I" } : Jvm.MethodName)) ∈ lw_all := lw_g (lw_at lw_m2 108 rfl) rfl
theorem q376 : (Jvm.Cond.selects "CodeBreakerModel" ({ cls := "CodeBreakerModel", name := "first", desc := "()I" } : Jvm.MethodName) ({ cls := "CodeBreakerModel", name := "first", desc := "()I" } : Jvm.MethodName)) ∈ lw_all := lw_g (lw_at lw_m2 109 rfl) rfl
theorem q377 : (Jvm.Cond.code ({ cls := "CodeBreakerModel", name := "first", desc := "()I" } : Jvm.MethodName) prog_3_method_33_code (3 : Nat) (Option.some Jvm.ClassFile.FieldType.int)) ∈ lw_all := lw_g (lw_at lw_m2 110 rfl) rfl
theorem q379 : (Jvm.Cond.instanceMethod ({ cls := "CodeBreakerModel", name := "useful", desc := "()I" } : Jvm.MethodName)) ∈ lw_all := lw_g (lw_at lw_m2 112 rfl) rfl
theorem q380 : (Jvm.Cond.selects "CodeBreakerModel" ({ cls := "CodeBreakerModel", name := "useful", desc := "()I" } : Jvm.MethodName) ({ cls := "CodeBreakerModel", name := "useful", desc := "()I" } : Jvm.MethodName)) ∈ lw_all := lw_g (lw_at lw_m2 113 rfl) rfl
theorem q381 : (Jvm.Cond.code ({ cls := "CodeBreakerModel", name := "useful", desc := "()I" } : Jvm.MethodName) prog_3_method_34_code (4 : Nat) (Option.some Jvm.ClassFile.FieldType.int)) ∈ lw_all := lw_g (lw_at lw_m2 114 rfl) rfl
theorem in_X2 : ∀ w ∈ wsX20, w ∈ lw_all := lw_in wsX20 [239, 241, 243, 245, 247, 249, 251, 253, 255, 257, 259] (by decide +kernel) (by decide +kernel)
def RJ0 : String := "java/lang/Object"
abbrev cJ0_init : ByteArray := object_method_1_code
def yJ0_init : MethodName := ⟨RJ0, "<init>", "()V"⟩
theorem q36 : (Jvm.Cond.instanceMethod ({ cls := "java/lang/Object", name := "<init>", desc := "()V" } : Jvm.MethodName)) ∈ lw_all := lw_g (lw_at lw_m1 9 rfl) rfl
theorem q37 : (Jvm.Cond.code ({ cls := "java/lang/Object", name := "<init>", desc := "()V" } : Jvm.MethodName) object_method_1_code (1 : Nat) (Option.none : Option Jvm.ClassFile.FieldType)) ∈ lw_all := lw_g (lw_at lw_m1 10 rfl) rfl
abbrev cL_law : ByteArray := code
theorem q93 : (Jvm.Cond.arrayClass Jvm.ClassFile.FieldType.int) ∈ lw_all := lw_g (lw_at lw_m1 66 rfl) rfl
end
section
set_option maxRecDepth 100000
theorem dX1_init_0 : decode cX1_init 0 = .ok (.aload_n 0, 1) := by decide +kernel
theorem dX1_init_1 : decode cX1_init 1 = .ok (.invokespecial 1, 3) := by decide +kernel
theorem dX1_init_4 : decode cX1_init 4 = .ok (.aload_n 0, 1) := by decide +kernel
theorem dX1_init_5 : decode cX1_init 5 = .ok (.sipush 324, 3) := by decide +kernel
theorem dX1_init_8 : decode cX1_init 8 = .ok (.newarray .int, 2) := by decide +kernel
theorem dX1_init_10 : decode cX1_init 10 = .ok (.putfield 7, 3) := by decide +kernel
theorem dX1_init_13 : decode cX1_init 13 = .ok (.aload_n 0, 1) := by decide +kernel
theorem dX1_init_14 : decode cX1_init 14 = .ok (.sipush 243, 3) := by decide +kernel
theorem dX1_init_17 : decode cX1_init 17 = .ok (.newarray .int, 2) := by decide +kernel
theorem dX1_init_19 : decode cX1_init 19 = .ok (.putfield 13, 3) := by decide +kernel
theorem dX1_init_22 : decode cX1_init 22 = .ok (.aload_n 0, 1) := by decide +kernel
theorem dX1_init_23 : decode cX1_init 23 = .ok (.bipush 8, 2) := by decide +kernel
theorem dX1_init_25 : decode cX1_init 25 = .ok (.newarray .int, 2) := by decide +kernel
theorem dX1_init_27 : decode cX1_init 27 = .ok (.putfield 16, 3) := by decide +kernel
theorem dX1_init_30 : decode cX1_init 30 = .ok (.aload_n 0, 1) := by decide +kernel
theorem dX1_init_31 : decode cX1_init 31 = .ok (.bipush 8, 2) := by decide +kernel
theorem dX1_init_33 : decode cX1_init 33 = .ok (.newarray .int, 2) := by decide +kernel
theorem dX1_init_35 : decode cX1_init 35 = .ok (.putfield 19, 3) := by decide +kernel
theorem dX1_init_38 : decode cX1_init 38 = .ok (.aload_n 0, 1) := by decide +kernel
theorem dX1_init_39 : decode cX1_init 39 = .ok (.bipush 81, 2) := by decide +kernel
theorem dX1_init_41 : decode cX1_init 41 = .ok (.newarray .int, 2) := by decide +kernel
theorem dX1_init_43 : decode cX1_init 43 = .ok (.putfield 22, 3) := by decide +kernel
theorem dX1_init_46 : decode cX1_init 46 = .ok (.aload_n 0, 1) := by decide +kernel
theorem dX1_init_47 : decode cX1_init 47 = .ok (.bipush 45, 2) := by decide +kernel
theorem dX1_init_49 : decode cX1_init 49 = .ok (.newarray .int, 2) := by decide +kernel
theorem dX1_init_51 : decode cX1_init 51 = .ok (.putfield 25, 3) := by decide +kernel
theorem dX1_init_54 : decode cX1_init 54 = .ok (.aload_n 0, 1) := by decide +kernel
theorem dX1_init_55 : decode cX1_init 55 = .ok (.bipush 8, 2) := by decide +kernel
theorem dX1_init_57 : decode cX1_init 57 = .ok (.newarray .int, 2) := by decide +kernel
theorem dX1_init_59 : decode cX1_init 59 = .ok (.putfield 28, 3) := by decide +kernel
theorem dX1_init_62 : decode cX1_init 62 = .ok (.aload_n 0, 1) := by decide +kernel
theorem dX1_init_63 : decode cX1_init 63 = .ok (.sipush 648, 3) := by decide +kernel
theorem dX1_init_66 : decode cX1_init 66 = .ok (.newarray .int, 2) := by decide +kernel
theorem dX1_init_68 : decode cX1_init 68 = .ok (.putfield 31, 3) := by decide +kernel
theorem dX1_init_71 : decode cX1_init 71 = .ok (.aload_n 0, 1) := by decide +kernel
theorem dX1_init_72 : decode cX1_init 72 = .ok (.sipush 256, 3) := by decide +kernel
theorem dX1_init_75 : decode cX1_init 75 = .ok (.newarray .int, 2) := by decide +kernel
theorem dX1_init_77 : decode cX1_init 77 = .ok (.putfield 34, 3) := by decide +kernel
theorem dX1_init_80 : decode cX1_init 80 = .ok (.aload_n 0, 1) := by decide +kernel
theorem dX1_init_81 : decode cX1_init 81 = .ok (.bipush 45, 2) := by decide +kernel
theorem dX1_init_83 : decode cX1_init 83 = .ok (.newarray .int, 2) := by decide +kernel
theorem dX1_init_85 : decode cX1_init 85 = .ok (.putfield 37, 3) := by decide +kernel
theorem dX1_init_88 : decode cX1_init 88 = .ok (.aload_n 0, 1) := by decide +kernel
theorem dX1_init_89 : decode cX1_init 89 = .ok (.iload_n 1, 1) := by decide +kernel
theorem dX1_init_90 : decode cX1_init 90 = .ok (.iconst 1, 1) := by decide +kernel
theorem dX1_init_91 : decode cX1_init 91 = .ok (.if_icmp .ge 7, 3) := by decide +kernel
theorem dX1_init_94 : decode cX1_init 94 = .ok (.iconst 1, 1) := by decide +kernel
theorem dX1_init_95 : decode cX1_init 95 = .ok (.goto 13, 3) := by decide +kernel
theorem dX1_init_98 : decode cX1_init 98 = .ok (.iload_n 1, 1) := by decide +kernel
theorem dX1_init_99 : decode cX1_init 99 = .ok (.iconst 4, 1) := by decide +kernel
theorem dX1_init_100 : decode cX1_init 100 = .ok (.if_icmp .le 7, 3) := by decide +kernel
theorem dX1_init_103 : decode cX1_init 103 = .ok (.iconst 4, 1) := by decide +kernel
theorem dX1_init_104 : decode cX1_init 104 = .ok (.goto 4, 3) := by decide +kernel
theorem dX1_init_107 : decode cX1_init 107 = .ok (.iload_n 1, 1) := by decide +kernel
theorem dX1_init_108 : decode cX1_init 108 = .ok (.putfield 40, 3) := by decide +kernel
theorem dX1_init_111 : decode cX1_init 111 = .ok (.aload_n 0, 1) := by decide +kernel
theorem dX1_init_112 : decode cX1_init 112 = .ok (.iload_n 2, 1) := by decide +kernel
theorem dX1_init_113 : decode cX1_init 113 = .ok (.iconst 1, 1) := by decide +kernel
theorem dX1_init_114 : decode cX1_init 114 = .ok (.if_icmp .ge 7, 3) := by decide +kernel
theorem dX1_init_117 : decode cX1_init 117 = .ok (.iconst 1, 1) := by decide +kernel
theorem dX1_init_118 : decode cX1_init 118 = .ok (.goto 13, 3) := by decide +kernel
theorem dX1_init_121 : decode cX1_init 121 = .ok (.iload_n 2, 1) := by decide +kernel
theorem dX1_init_122 : decode cX1_init 122 = .ok (.iconst 3, 1) := by decide +kernel
theorem dX1_init_123 : decode cX1_init 123 = .ok (.if_icmp .le 7, 3) := by decide +kernel
theorem dX1_init_126 : decode cX1_init 126 = .ok (.iconst 3, 1) := by decide +kernel
theorem dX1_init_127 : decode cX1_init 127 = .ok (.goto 4, 3) := by decide +kernel
theorem dX1_init_130 : decode cX1_init 130 = .ok (.iload_n 2, 1) := by decide +kernel
theorem dX1_init_131 : decode cX1_init 131 = .ok (.putfield 44, 3) := by decide +kernel
theorem dX1_init_134 : decode cX1_init 134 = .ok (.iconst 1, 1) := by decide +kernel
theorem dX1_init_135 : decode cX1_init 135 = .ok (.istore_n 3, 1) := by decide +kernel
theorem dX1_init_136 : decode cX1_init 136 = .ok (.iconst 0, 1) := by decide +kernel
theorem dX1_init_137 : decode cX1_init 137 = .ok (.istore 4, 2) := by decide +kernel
theorem dX1_init_139 : decode cX1_init 139 = .ok (.iload 4, 2) := by decide +kernel
theorem dX1_init_141 : decode cX1_init 141 = .ok (.aload_n 0, 1) := by decide +kernel
theorem dX1_init_142 : decode cX1_init 142 = .ok (.getfield 40, 3) := by decide +kernel
theorem dX1_init_145 : decode cX1_init 145 = .ok (.if_icmp .ge 16, 3) := by decide +kernel
theorem dX1_init_148 : decode cX1_init 148 = .ok (.iload_n 3, 1) := by decide +kernel
theorem dX1_init_149 : decode cX1_init 149 = .ok (.aload_n 0, 1) := by decide +kernel
theorem dX1_init_150 : decode cX1_init 150 = .ok (.getfield 44, 3) := by decide +kernel
theorem dX1_init_153 : decode cX1_init 153 = .ok (.imul, 1) := by decide +kernel
theorem dX1_init_154 : decode cX1_init 154 = .ok (.istore_n 3, 1) := by decide +kernel
theorem dX1_init_155 : decode cX1_init 155 = .ok (.iinc 4 1, 3) := by decide +kernel
theorem dX1_init_158 : decode cX1_init 158 = .ok (.goto (-19), 3) := by decide +kernel
theorem dX1_init_161 : decode cX1_init 161 = .ok (.aload_n 0, 1) := by decide +kernel
theorem dX1_init_162 : decode cX1_init 162 = .ok (.iload_n 3, 1) := by decide +kernel
theorem dX1_init_163 : decode cX1_init 163 = .ok (.putfield 47, 3) := by decide +kernel
theorem dX1_init_166 : decode cX1_init 166 = .ok (.iconst 0, 1) := by decide +kernel
theorem dX1_init_167 : decode cX1_init 167 = .ok (.istore 4, 2) := by decide +kernel
theorem dX1_init_169 : decode cX1_init 169 = .ok (.iload 4, 2) := by decide +kernel
theorem dX1_init_171 : decode cX1_init 171 = .ok (.iload_n 3, 1) := by decide +kernel
theorem dX1_init_172 : decode cX1_init 172 = .ok (.if_icmp .ge 138, 3) := by decide +kernel
theorem dX1_init_175 : decode cX1_init 175 = .ok (.iload 4, 2) := by decide +kernel
theorem dX1_init_177 : decode cX1_init 177 = .ok (.istore 5, 2) := by decide +kernel
theorem dX1_init_179 : decode cX1_init 179 = .ok (.aload_n 0, 1) := by decide +kernel
theorem dX1_init_180 : decode cX1_init 180 = .ok (.getfield 40, 3) := by decide +kernel
theorem dX1_init_183 : decode cX1_init 183 = .ok (.iconst 1, 1) := by decide +kernel
theorem dX1_init_184 : decode cX1_init 184 = .ok (.isub, 1) := by decide +kernel
theorem dX1_init_185 : decode cX1_init 185 = .ok (.istore 6, 2) := by decide +kernel
theorem dX1_init_187 : decode cX1_init 187 = .ok (.iload 6, 2) := by decide +kernel
theorem dX1_init_189 : decode cX1_init 189 = .ok (.ifCond .lt 115, 3) := by decide +kernel
theorem dX1_init_192 : decode cX1_init 192 = .ok (.aload_n 0, 1) := by decide +kernel
theorem dX1_init_193 : decode cX1_init 193 = .ok (.getfield 44, 3) := by decide +kernel
theorem dX1_init_196 : decode cX1_init 196 = .ok (.iconst 1, 1) := by decide +kernel
theorem dX1_init_197 : decode cX1_init 197 = .ok (.if_icmp .ne 7, 3) := by decide +kernel
theorem dX1_init_200 : decode cX1_init 200 = .ok (.iconst 0, 1) := by decide +kernel
theorem dX1_init_201 : decode cX1_init 201 = .ok (.goto 22, 3) := by decide +kernel
theorem dX1_init_204 : decode cX1_init 204 = .ok (.aload_n 0, 1) := by decide +kernel
theorem dX1_init_205 : decode cX1_init 205 = .ok (.getfield 44, 3) := by decide +kernel
theorem dX1_init_208 : decode cX1_init 208 = .ok (.iconst 2, 1) := by decide +kernel
theorem dX1_init_209 : decode cX1_init 209 = .ok (.if_icmp .ne 10, 3) := by decide +kernel
theorem dX1_init_212 : decode cX1_init 212 = .ok (.iload 5, 2) := by decide +kernel
theorem dX1_init_214 : decode cX1_init 214 = .ok (.iconst 2, 1) := by decide +kernel
theorem dX1_init_215 : decode cX1_init 215 = .ok (.irem, 1) := by decide +kernel
theorem dX1_init_216 : decode cX1_init 216 = .ok (.goto 7, 3) := by decide +kernel
theorem dX1_init_219 : decode cX1_init 219 = .ok (.iload 5, 2) := by decide +kernel
theorem dX1_init_221 : decode cX1_init 221 = .ok (.iconst 3, 1) := by decide +kernel
theorem dX1_init_222 : decode cX1_init 222 = .ok (.irem, 1) := by decide +kernel
theorem dX1_init_223 : decode cX1_init 223 = .ok (.istore 7, 2) := by decide +kernel
theorem dX1_init_225 : decode cX1_init 225 = .ok (.aload_n 0, 1) := by decide +kernel
theorem dX1_init_226 : decode cX1_init 226 = .ok (.getfield 44, 3) := by decide +kernel
theorem dX1_init_229 : decode cX1_init 229 = .ok (.iconst 1, 1) := by decide +kernel
theorem dX1_init_230 : decode cX1_init 230 = .ok (.if_icmp .ne 7, 3) := by decide +kernel
theorem dX1_init_233 : decode cX1_init 233 = .ok (.iconst 0, 1) := by decide +kernel
theorem dX1_init_234 : decode cX1_init 234 = .ok (.goto 22, 3) := by decide +kernel
theorem dX1_init_237 : decode cX1_init 237 = .ok (.aload_n 0, 1) := by decide +kernel
theorem dX1_init_238 : decode cX1_init 238 = .ok (.getfield 44, 3) := by decide +kernel
theorem dX1_init_241 : decode cX1_init 241 = .ok (.iconst 2, 1) := by decide +kernel
theorem dX1_init_242 : decode cX1_init 242 = .ok (.if_icmp .ne 10, 3) := by decide +kernel
theorem dX1_init_245 : decode cX1_init 245 = .ok (.iload 5, 2) := by decide +kernel
theorem dX1_init_247 : decode cX1_init 247 = .ok (.iconst 2, 1) := by decide +kernel
theorem dX1_init_248 : decode cX1_init 248 = .ok (.idiv, 1) := by decide +kernel
theorem dX1_init_249 : decode cX1_init 249 = .ok (.goto 7, 3) := by decide +kernel
theorem dX1_init_252 : decode cX1_init 252 = .ok (.iload 5, 2) := by decide +kernel
theorem dX1_init_254 : decode cX1_init 254 = .ok (.iconst 3, 1) := by decide +kernel
theorem dX1_init_255 : decode cX1_init 255 = .ok (.idiv, 1) := by decide +kernel
theorem dX1_init_256 : decode cX1_init 256 = .ok (.istore 5, 2) := by decide +kernel
theorem dX1_init_258 : decode cX1_init 258 = .ok (.aload_n 0, 1) := by decide +kernel
theorem dX1_init_259 : decode cX1_init 259 = .ok (.getfield 7, 3) := by decide +kernel
theorem dX1_init_262 : decode cX1_init 262 = .ok (.iconst 4, 1) := by decide +kernel
theorem dX1_init_263 : decode cX1_init 263 = .ok (.iload 4, 2) := by decide +kernel
theorem dX1_init_265 : decode cX1_init 265 = .ok (.imul, 1) := by decide +kernel
theorem dX1_init_266 : decode cX1_init 266 = .ok (.iload 6, 2) := by decide +kernel
theorem dX1_init_268 : decode cX1_init 268 = .ok (.iadd, 1) := by decide +kernel
theorem dX1_init_269 : decode cX1_init 269 = .ok (.iload 7, 2) := by decide +kernel
theorem dX1_init_271 : decode cX1_init 271 = .ok (.iastore, 1) := by decide +kernel
theorem dX1_init_272 : decode cX1_init 272 = .ok (.aload_n 0, 1) := by decide +kernel
theorem dX1_init_273 : decode cX1_init 273 = .ok (.getfield 13, 3) := by decide +kernel
theorem dX1_init_276 : decode cX1_init 276 = .ok (.iconst 3, 1) := by decide +kernel
theorem dX1_init_277 : decode cX1_init 277 = .ok (.iload 4, 2) := by decide +kernel
theorem dX1_init_279 : decode cX1_init 279 = .ok (.imul, 1) := by decide +kernel
theorem dX1_init_280 : decode cX1_init 280 = .ok (.iload 7, 2) := by decide +kernel
theorem dX1_init_282 : decode cX1_init 282 = .ok (.iadd, 1) := by decide +kernel
theorem dX1_init_283 : decode cX1_init 283 = .ok (.aload_n 0, 1) := by decide +kernel
theorem dX1_init_284 : decode cX1_init 284 = .ok (.getfield 13, 3) := by decide +kernel
theorem dX1_init_287 : decode cX1_init 287 = .ok (.iconst 3, 1) := by decide +kernel
theorem dX1_init_288 : decode cX1_init 288 = .ok (.iload 4, 2) := by decide +kernel
theorem dX1_init_290 : decode cX1_init 290 = .ok (.imul, 1) := by decide +kernel
theorem dX1_init_291 : decode cX1_init 291 = .ok (.iload 7, 2) := by decide +kernel
theorem dX1_init_293 : decode cX1_init 293 = .ok (.iadd, 1) := by decide +kernel
theorem dX1_init_294 : decode cX1_init 294 = .ok (.iaload, 1) := by decide +kernel
theorem dX1_init_295 : decode cX1_init 295 = .ok (.iconst 1, 1) := by decide +kernel
theorem dX1_init_296 : decode cX1_init 296 = .ok (.iadd, 1) := by decide +kernel
theorem dX1_init_297 : decode cX1_init 297 = .ok (.iastore, 1) := by decide +kernel
theorem dX1_init_298 : decode cX1_init 298 = .ok (.iinc 6 (-1), 3) := by decide +kernel
theorem dX1_init_301 : decode cX1_init 301 = .ok (.goto (-114), 3) := by decide +kernel
theorem dX1_init_304 : decode cX1_init 304 = .ok (.iinc 4 1, 3) := by decide +kernel
theorem dX1_init_307 : decode cX1_init 307 = .ok (.goto (-138), 3) := by decide +kernel
theorem dX1_init_310 : decode cX1_init 310 = .ok (.return_, 1) := by decide +kernel
theorem dX1_codes_0 : decode cX1_codes 0 = .ok (.aload_n 0, 1) := by decide +kernel
theorem dX1_codes_1 : decode cX1_codes 1 = .ok (.getfield 47, 3) := by decide +kernel
theorem dX1_codes_4 : decode cX1_codes 4 = .ok (.ireturn, 1) := by decide +kernel
theorem dX1_answer_0 : decode cX1_answer 0 = .ok (.aload_n 0, 1) := by decide +kernel
theorem dX1_answer_1 : decode cX1_answer 1 = .ok (.iload_n 1, 1) := by decide +kernel
theorem dX1_answer_2 : decode cX1_answer 2 = .ok (.invokevirtual 50, 3) := by decide +kernel
theorem dX1_answer_5 : decode cX1_answer 5 = .ok (.ifCond .ne 11, 3) := by decide +kernel
theorem dX1_answer_8 : decode cX1_answer 8 = .ok (.aload_n 0, 1) := by decide +kernel
theorem dX1_answer_9 : decode cX1_answer 9 = .ok (.iload_n 2, 1) := by decide +kernel
theorem dX1_answer_10 : decode cX1_answer 10 = .ok (.invokevirtual 50, 3) := by decide +kernel
theorem dX1_answer_13 : decode cX1_answer 13 = .ok (.ifCond .eq 7, 3) := by decide +kernel
theorem dX1_answer_16 : decode cX1_answer 16 = .ok (.iconst (-1), 1) := by decide +kernel
theorem dX1_answer_17 : decode cX1_answer 17 = .ok (.goto 9, 3) := by decide +kernel
theorem dX1_answer_20 : decode cX1_answer 20 = .ok (.aload_n 0, 1) := by decide +kernel
theorem dX1_answer_21 : decode cX1_answer 21 = .ok (.iload_n 1, 1) := by decide +kernel
theorem dX1_answer_22 : decode cX1_answer 22 = .ok (.iload_n 2, 1) := by decide +kernel
theorem dX1_answer_23 : decode cX1_answer 23 = .ok (.invokevirtual 54, 3) := by decide +kernel
theorem dX1_answer_26 : decode cX1_answer 26 = .ok (.ireturn, 1) := by decide +kernel
theorem dX1_badCode_0 : decode cX1_badCode 0 = .ok (.iload_n 1, 1) := by decide +kernel
theorem dX1_badCode_1 : decode cX1_badCode 1 = .ok (.ifCond .lt 11, 3) := by decide +kernel
theorem dX1_badCode_4 : decode cX1_badCode 4 = .ok (.iload_n 1, 1) := by decide +kernel
theorem dX1_badCode_5 : decode cX1_badCode 5 = .ok (.aload_n 0, 1) := by decide +kernel
theorem dX1_badCode_6 : decode cX1_badCode 6 = .ok (.getfield 47, 3) := by decide +kernel
theorem dX1_badCode_9 : decode cX1_badCode 9 = .ok (.if_icmp .lt 7, 3) := by decide +kernel
theorem dX1_badCode_12 : decode cX1_badCode 12 = .ok (.iconst 1, 1) := by decide +kernel
theorem dX1_badCode_13 : decode cX1_badCode 13 = .ok (.goto 4, 3) := by decide +kernel
theorem dX1_badCode_16 : decode cX1_badCode 16 = .ok (.iconst 0, 1) := by decide +kernel
theorem dX1_badCode_17 : decode cX1_badCode 17 = .ok (.ireturn, 1) := by decide +kernel
theorem dX1_answerTo_0 : decode cX1_answerTo 0 = .ok (.iconst 0, 1) := by decide +kernel
theorem dX1_answerTo_1 : decode cX1_answerTo 1 = .ok (.istore_n 3, 1) := by decide +kernel
theorem dX1_answerTo_2 : decode cX1_answerTo 2 = .ok (.iconst 0, 1) := by decide +kernel
theorem dX1_answerTo_3 : decode cX1_answerTo 3 = .ok (.istore 4, 2) := by decide +kernel
theorem dX1_answerTo_5 : decode cX1_answerTo 5 = .ok (.iload 4, 2) := by decide +kernel
theorem dX1_answerTo_7 : decode cX1_answerTo 7 = .ok (.aload_n 0, 1) := by decide +kernel
theorem dX1_answerTo_8 : decode cX1_answerTo 8 = .ok (.getfield 40, 3) := by decide +kernel
theorem dX1_answerTo_11 : decode cX1_answerTo 11 = .ok (.if_icmp .ge 42, 3) := by decide +kernel
theorem dX1_answerTo_14 : decode cX1_answerTo 14 = .ok (.aload_n 0, 1) := by decide +kernel
theorem dX1_answerTo_15 : decode cX1_answerTo 15 = .ok (.getfield 7, 3) := by decide +kernel
theorem dX1_answerTo_18 : decode cX1_answerTo 18 = .ok (.iconst 4, 1) := by decide +kernel
theorem dX1_answerTo_19 : decode cX1_answerTo 19 = .ok (.iload_n 1, 1) := by decide +kernel
theorem dX1_answerTo_20 : decode cX1_answerTo 20 = .ok (.imul, 1) := by decide +kernel
theorem dX1_answerTo_21 : decode cX1_answerTo 21 = .ok (.iload 4, 2) := by decide +kernel
theorem dX1_answerTo_23 : decode cX1_answerTo 23 = .ok (.iadd, 1) := by decide +kernel
theorem dX1_answerTo_24 : decode cX1_answerTo 24 = .ok (.iaload, 1) := by decide +kernel
theorem dX1_answerTo_25 : decode cX1_answerTo 25 = .ok (.aload_n 0, 1) := by decide +kernel
theorem dX1_answerTo_26 : decode cX1_answerTo 26 = .ok (.getfield 7, 3) := by decide +kernel
theorem dX1_answerTo_29 : decode cX1_answerTo 29 = .ok (.iconst 4, 1) := by decide +kernel
theorem dX1_answerTo_30 : decode cX1_answerTo 30 = .ok (.iload_n 2, 1) := by decide +kernel
theorem dX1_answerTo_31 : decode cX1_answerTo 31 = .ok (.imul, 1) := by decide +kernel
theorem dX1_answerTo_32 : decode cX1_answerTo 32 = .ok (.iload 4, 2) := by decide +kernel
theorem dX1_answerTo_34 : decode cX1_answerTo 34 = .ok (.iadd, 1) := by decide +kernel
theorem dX1_answerTo_35 : decode cX1_answerTo 35 = .ok (.iaload, 1) := by decide +kernel
theorem dX1_answerTo_36 : decode cX1_answerTo 36 = .ok (.if_icmp .ne 9, 3) := by decide +kernel
theorem dX1_answerTo_39 : decode cX1_answerTo 39 = .ok (.iload_n 3, 1) := by decide +kernel
theorem dX1_answerTo_40 : decode cX1_answerTo 40 = .ok (.iconst 1, 1) := by decide +kernel
theorem dX1_answerTo_41 : decode cX1_answerTo 41 = .ok (.iadd, 1) := by decide +kernel
theorem dX1_answerTo_42 : decode cX1_answerTo 42 = .ok (.goto 4, 3) := by decide +kernel
theorem dX1_answerTo_45 : decode cX1_answerTo 45 = .ok (.iload_n 3, 1) := by decide +kernel
theorem dX1_answerTo_46 : decode cX1_answerTo 46 = .ok (.istore_n 3, 1) := by decide +kernel
theorem dX1_answerTo_47 : decode cX1_answerTo 47 = .ok (.iinc 4 1, 3) := by decide +kernel
theorem dX1_answerTo_50 : decode cX1_answerTo 50 = .ok (.goto (-45), 3) := by decide +kernel
theorem dX1_answerTo_53 : decode cX1_answerTo 53 = .ok (.iconst 0, 1) := by decide +kernel
theorem dX1_answerTo_54 : decode cX1_answerTo 54 = .ok (.istore 4, 2) := by decide +kernel
theorem dX1_answerTo_56 : decode cX1_answerTo 56 = .ok (.iconst 0, 1) := by decide +kernel
theorem dX1_answerTo_57 : decode cX1_answerTo 57 = .ok (.istore 5, 2) := by decide +kernel
theorem dX1_answerTo_59 : decode cX1_answerTo 59 = .ok (.iload 5, 2) := by decide +kernel
theorem dX1_answerTo_61 : decode cX1_answerTo 61 = .ok (.aload_n 0, 1) := by decide +kernel
theorem dX1_answerTo_62 : decode cX1_answerTo 62 = .ok (.getfield 44, 3) := by decide +kernel
theorem dX1_answerTo_65 : decode cX1_answerTo 65 = .ok (.if_icmp .ge 54, 3) := by decide +kernel
theorem dX1_answerTo_68 : decode cX1_answerTo 68 = .ok (.aload_n 0, 1) := by decide +kernel
theorem dX1_answerTo_69 : decode cX1_answerTo 69 = .ok (.getfield 13, 3) := by decide +kernel
theorem dX1_answerTo_72 : decode cX1_answerTo 72 = .ok (.iconst 3, 1) := by decide +kernel
theorem dX1_answerTo_73 : decode cX1_answerTo 73 = .ok (.iload_n 1, 1) := by decide +kernel
theorem dX1_answerTo_74 : decode cX1_answerTo 74 = .ok (.imul, 1) := by decide +kernel
theorem dX1_answerTo_75 : decode cX1_answerTo 75 = .ok (.iload 5, 2) := by decide +kernel
theorem dX1_answerTo_77 : decode cX1_answerTo 77 = .ok (.iadd, 1) := by decide +kernel
theorem dX1_answerTo_78 : decode cX1_answerTo 78 = .ok (.iaload, 1) := by decide +kernel
theorem dX1_answerTo_79 : decode cX1_answerTo 79 = .ok (.istore 6, 2) := by decide +kernel
theorem dX1_answerTo_81 : decode cX1_answerTo 81 = .ok (.aload_n 0, 1) := by decide +kernel
theorem dX1_answerTo_82 : decode cX1_answerTo 82 = .ok (.getfield 13, 3) := by decide +kernel
theorem dX1_answerTo_85 : decode cX1_answerTo 85 = .ok (.iconst 3, 1) := by decide +kernel
theorem dX1_answerTo_86 : decode cX1_answerTo 86 = .ok (.iload_n 2, 1) := by decide +kernel
theorem dX1_answerTo_87 : decode cX1_answerTo 87 = .ok (.imul, 1) := by decide +kernel
theorem dX1_answerTo_88 : decode cX1_answerTo 88 = .ok (.iload 5, 2) := by decide +kernel
theorem dX1_answerTo_90 : decode cX1_answerTo 90 = .ok (.iadd, 1) := by decide +kernel
theorem dX1_answerTo_91 : decode cX1_answerTo 91 = .ok (.iaload, 1) := by decide +kernel
theorem dX1_answerTo_92 : decode cX1_answerTo 92 = .ok (.istore 7, 2) := by decide +kernel
theorem dX1_answerTo_94 : decode cX1_answerTo 94 = .ok (.iload 4, 2) := by decide +kernel
theorem dX1_answerTo_96 : decode cX1_answerTo 96 = .ok (.iload 6, 2) := by decide +kernel
theorem dX1_answerTo_98 : decode cX1_answerTo 98 = .ok (.iload 7, 2) := by decide +kernel
theorem dX1_answerTo_100 : decode cX1_answerTo 100 = .ok (.if_icmp .ge 8, 3) := by decide +kernel
theorem dX1_answerTo_103 : decode cX1_answerTo 103 = .ok (.iload 6, 2) := by decide +kernel
theorem dX1_answerTo_105 : decode cX1_answerTo 105 = .ok (.goto 5, 3) := by decide +kernel
theorem dX1_answerTo_108 : decode cX1_answerTo 108 = .ok (.iload 7, 2) := by decide +kernel
theorem dX1_answerTo_110 : decode cX1_answerTo 110 = .ok (.iadd, 1) := by decide +kernel
theorem dX1_answerTo_111 : decode cX1_answerTo 111 = .ok (.istore 4, 2) := by decide +kernel
theorem dX1_answerTo_113 : decode cX1_answerTo 113 = .ok (.iinc 5 1, 3) := by decide +kernel
theorem dX1_answerTo_116 : decode cX1_answerTo 116 = .ok (.goto (-57), 3) := by decide +kernel
theorem dX1_answerTo_119 : decode cX1_answerTo 119 = .ok (.bipush 10, 2) := by decide +kernel
theorem dX1_answerTo_121 : decode cX1_answerTo 121 = .ok (.iload_n 3, 1) := by decide +kernel
theorem dX1_answerTo_122 : decode cX1_answerTo 122 = .ok (.imul, 1) := by decide +kernel
theorem dX1_answerTo_123 : decode cX1_answerTo 123 = .ok (.iload 4, 2) := by decide +kernel
theorem dX1_answerTo_125 : decode cX1_answerTo 125 = .ok (.iadd, 1) := by decide +kernel
theorem dX1_answerTo_126 : decode cX1_answerTo 126 = .ok (.iload_n 3, 1) := by decide +kernel
theorem dX1_answerTo_127 : decode cX1_answerTo 127 = .ok (.isub, 1) := by decide +kernel
theorem dX1_answerTo_128 : decode cX1_answerTo 128 = .ok (.ireturn, 1) := by decide +kernel
theorem dX1_tell_0 : decode cX1_tell 0 = .ok (.aload_n 0, 1) := by decide +kernel
theorem dX1_tell_1 : decode cX1_tell 1 = .ok (.iload_n 1, 1) := by decide +kernel
theorem dX1_tell_2 : decode cX1_tell 2 = .ok (.invokevirtual 50, 3) := by decide +kernel
theorem dX1_tell_5 : decode cX1_tell 5 = .ok (.ifCond .ne 21, 3) := by decide +kernel
theorem dX1_tell_8 : decode cX1_tell 8 = .ok (.iload_n 2, 1) := by decide +kernel
theorem dX1_tell_9 : decode cX1_tell 9 = .ok (.ifCond .lt 17, 3) := by decide +kernel
theorem dX1_tell_12 : decode cX1_tell 12 = .ok (.iload_n 2, 1) := by decide +kernel
theorem dX1_tell_13 : decode cX1_tell 13 = .ok (.iconst 4, 1) := by decide +kernel
theorem dX1_tell_14 : decode cX1_tell 14 = .ok (.if_icmp .gt 12, 3) := by decide +kernel
theorem dX1_tell_17 : decode cX1_tell 17 = .ok (.iload_n 3, 1) := by decide +kernel
theorem dX1_tell_18 : decode cX1_tell 18 = .ok (.ifCond .lt 8, 3) := by decide +kernel
theorem dX1_tell_21 : decode cX1_tell 21 = .ok (.iload_n 3, 1) := by decide +kernel
theorem dX1_tell_22 : decode cX1_tell 22 = .ok (.iconst 4, 1) := by decide +kernel
theorem dX1_tell_23 : decode cX1_tell 23 = .ok (.if_icmp .le 5, 3) := by decide +kernel
theorem dX1_tell_26 : decode cX1_tell 26 = .ok (.iconst (-1), 1) := by decide +kernel
theorem dX1_tell_27 : decode cX1_tell 27 = .ok (.ireturn, 1) := by decide +kernel
theorem dX1_tell_28 : decode cX1_tell 28 = .ok (.aload_n 0, 1) := by decide +kernel
theorem dX1_tell_29 : decode cX1_tell 29 = .ok (.getfield 58, 3) := by decide +kernel
theorem dX1_tell_32 : decode cX1_tell 32 = .ok (.bipush 8, 2) := by decide +kernel
theorem dX1_tell_34 : decode cX1_tell 34 = .ok (.if_icmp .ne 6, 3) := by decide +kernel
theorem dX1_tell_37 : decode cX1_tell 37 = .ok (.bipush (-2), 2) := by decide +kernel
theorem dX1_tell_39 : decode cX1_tell 39 = .ok (.ireturn, 1) := by decide +kernel
theorem dX1_tell_40 : decode cX1_tell 40 = .ok (.aload_n 0, 1) := by decide +kernel
theorem dX1_tell_41 : decode cX1_tell 41 = .ok (.getfield 16, 3) := by decide +kernel
theorem dX1_tell_44 : decode cX1_tell 44 = .ok (.aload_n 0, 1) := by decide +kernel
theorem dX1_tell_45 : decode cX1_tell 45 = .ok (.getfield 58, 3) := by decide +kernel
end
section
set_option maxRecDepth 100000
theorem dX1_tell_48 : decode cX1_tell 48 = .ok (.iload_n 1, 1) := by decide +kernel
theorem dX1_tell_49 : decode cX1_tell 49 = .ok (.iastore, 1) := by decide +kernel
theorem dX1_tell_50 : decode cX1_tell 50 = .ok (.aload_n 0, 1) := by decide +kernel
theorem dX1_tell_51 : decode cX1_tell 51 = .ok (.getfield 19, 3) := by decide +kernel
theorem dX1_tell_54 : decode cX1_tell 54 = .ok (.aload_n 0, 1) := by decide +kernel
theorem dX1_tell_55 : decode cX1_tell 55 = .ok (.getfield 58, 3) := by decide +kernel
theorem dX1_tell_58 : decode cX1_tell 58 = .ok (.bipush 10, 2) := by decide +kernel
theorem dX1_tell_60 : decode cX1_tell 60 = .ok (.iload_n 2, 1) := by decide +kernel
theorem dX1_tell_61 : decode cX1_tell 61 = .ok (.imul, 1) := by decide +kernel
theorem dX1_tell_62 : decode cX1_tell 62 = .ok (.iload_n 3, 1) := by decide +kernel
theorem dX1_tell_63 : decode cX1_tell 63 = .ok (.iadd, 1) := by decide +kernel
theorem dX1_tell_64 : decode cX1_tell 64 = .ok (.iastore, 1) := by decide +kernel
theorem dX1_tell_65 : decode cX1_tell 65 = .ok (.aload_n 0, 1) := by decide +kernel
theorem dX1_tell_66 : decode cX1_tell 66 = .ok (.aload_n 0, 1) := by decide +kernel
theorem dX1_tell_67 : decode cX1_tell 67 = .ok (.getfield 58, 3) := by decide +kernel
theorem dX1_tell_70 : decode cX1_tell 70 = .ok (.iconst 1, 1) := by decide +kernel
theorem dX1_tell_71 : decode cX1_tell 71 = .ok (.invokevirtual 61, 3) := by decide +kernel
theorem dX1_tell_74 : decode cX1_tell 74 = .ok (.aload_n 0, 1) := by decide +kernel
theorem dX1_tell_75 : decode cX1_tell 75 = .ok (.dup, 1) := by decide +kernel
theorem dX1_tell_76 : decode cX1_tell 76 = .ok (.getfield 58, 3) := by decide +kernel
theorem dX1_tell_79 : decode cX1_tell 79 = .ok (.iconst 1, 1) := by decide +kernel
theorem dX1_tell_80 : decode cX1_tell 80 = .ok (.iadd, 1) := by decide +kernel
theorem dX1_tell_81 : decode cX1_tell 81 = .ok (.putfield 58, 3) := by decide +kernel
theorem dX1_tell_84 : decode cX1_tell 84 = .ok (.aload_n 0, 1) := by decide +kernel
theorem dX1_tell_85 : decode cX1_tell 85 = .ok (.invokevirtual 65, 3) := by decide +kernel
theorem dX1_tell_88 : decode cX1_tell 88 = .ok (.ireturn, 1) := by decide +kernel
theorem dX1_weigh_0 : decode cX1_weigh 0 = .ok (.iconst 0, 1) := by decide +kernel
theorem dX1_weigh_1 : decode cX1_weigh 1 = .ok (.istore_n 3, 1) := by decide +kernel
theorem dX1_weigh_2 : decode cX1_weigh 2 = .ok (.iload_n 3, 1) := by decide +kernel
theorem dX1_weigh_3 : decode cX1_weigh 3 = .ok (.aload_n 0, 1) := by decide +kernel
theorem dX1_weigh_4 : decode cX1_weigh 4 = .ok (.getfield 47, 3) := by decide +kernel
theorem dX1_weigh_7 : decode cX1_weigh 7 = .ok (.if_icmp .ge 56, 3) := by decide +kernel
theorem dX1_weigh_10 : decode cX1_weigh 10 = .ok (.aload_n 0, 1) := by decide +kernel
theorem dX1_weigh_11 : decode cX1_weigh 11 = .ok (.aload_n 0, 1) := by decide +kernel
theorem dX1_weigh_12 : decode cX1_weigh 12 = .ok (.getfield 16, 3) := by decide +kernel
theorem dX1_weigh_15 : decode cX1_weigh 15 = .ok (.iload_n 1, 1) := by decide +kernel
theorem dX1_weigh_16 : decode cX1_weigh 16 = .ok (.iaload, 1) := by decide +kernel
theorem dX1_weigh_17 : decode cX1_weigh 17 = .ok (.iload_n 3, 1) := by decide +kernel
theorem dX1_weigh_18 : decode cX1_weigh 18 = .ok (.invokevirtual 54, 3) := by decide +kernel
theorem dX1_weigh_21 : decode cX1_weigh 21 = .ok (.istore 4, 2) := by decide +kernel
theorem dX1_weigh_23 : decode cX1_weigh 23 = .ok (.aload_n 0, 1) := by decide +kernel
theorem dX1_weigh_24 : decode cX1_weigh 24 = .ok (.getfield 22, 3) := by decide +kernel
theorem dX1_weigh_27 : decode cX1_weigh 27 = .ok (.iload_n 3, 1) := by decide +kernel
theorem dX1_weigh_28 : decode cX1_weigh 28 = .ok (.iload 4, 2) := by decide +kernel
theorem dX1_weigh_30 : decode cX1_weigh 30 = .ok (.aload_n 0, 1) := by decide +kernel
theorem dX1_weigh_31 : decode cX1_weigh 31 = .ok (.getfield 19, 3) := by decide +kernel
theorem dX1_weigh_34 : decode cX1_weigh 34 = .ok (.iload_n 1, 1) := by decide +kernel
theorem dX1_weigh_35 : decode cX1_weigh 35 = .ok (.iaload, 1) := by decide +kernel
theorem dX1_weigh_36 : decode cX1_weigh 36 = .ok (.if_icmp .ne 12, 3) := by decide +kernel
theorem dX1_weigh_39 : decode cX1_weigh 39 = .ok (.aload_n 0, 1) := by decide +kernel
theorem dX1_weigh_40 : decode cX1_weigh 40 = .ok (.getfield 22, 3) := by decide +kernel
theorem dX1_weigh_43 : decode cX1_weigh 43 = .ok (.iload_n 3, 1) := by decide +kernel
theorem dX1_weigh_44 : decode cX1_weigh 44 = .ok (.iaload, 1) := by decide +kernel
theorem dX1_weigh_45 : decode cX1_weigh 45 = .ok (.goto 11, 3) := by decide +kernel
theorem dX1_weigh_48 : decode cX1_weigh 48 = .ok (.aload_n 0, 1) := by decide +kernel
theorem dX1_weigh_49 : decode cX1_weigh 49 = .ok (.getfield 22, 3) := by decide +kernel
theorem dX1_weigh_52 : decode cX1_weigh 52 = .ok (.iload_n 3, 1) := by decide +kernel
theorem dX1_weigh_53 : decode cX1_weigh 53 = .ok (.iaload, 1) := by decide +kernel
theorem dX1_weigh_54 : decode cX1_weigh 54 = .ok (.iload_n 2, 1) := by decide +kernel
theorem dX1_weigh_55 : decode cX1_weigh 55 = .ok (.iadd, 1) := by decide +kernel
theorem dX1_weigh_56 : decode cX1_weigh 56 = .ok (.iastore, 1) := by decide +kernel
theorem dX1_weigh_57 : decode cX1_weigh 57 = .ok (.iinc 3 1, 3) := by decide +kernel
theorem dX1_weigh_60 : decode cX1_weigh 60 = .ok (.goto (-58), 3) := by decide +kernel
theorem dX1_weigh_63 : decode cX1_weigh 63 = .ok (.return_, 1) := by decide +kernel
theorem dX1_countPossible_0 : decode cX1_countPossible 0 = .ok (.iconst 0, 1) := by decide +kernel
theorem dX1_countPossible_1 : decode cX1_countPossible 1 = .ok (.istore_n 1, 1) := by decide +kernel
theorem dX1_countPossible_2 : decode cX1_countPossible 2 = .ok (.iconst 0, 1) := by decide +kernel
theorem dX1_countPossible_3 : decode cX1_countPossible 3 = .ok (.istore_n 2, 1) := by decide +kernel
theorem dX1_countPossible_4 : decode cX1_countPossible 4 = .ok (.iload_n 2, 1) := by decide +kernel
theorem dX1_countPossible_5 : decode cX1_countPossible 5 = .ok (.aload_n 0, 1) := by decide +kernel
theorem dX1_countPossible_6 : decode cX1_countPossible 6 = .ok (.getfield 47, 3) := by decide +kernel
theorem dX1_countPossible_9 : decode cX1_countPossible 9 = .ok (.if_icmp .ge 26, 3) := by decide +kernel
theorem dX1_countPossible_12 : decode cX1_countPossible 12 = .ok (.aload_n 0, 1) := by decide +kernel
theorem dX1_countPossible_13 : decode cX1_countPossible 13 = .ok (.getfield 22, 3) := by decide +kernel
theorem dX1_countPossible_16 : decode cX1_countPossible 16 = .ok (.iload_n 2, 1) := by decide +kernel
theorem dX1_countPossible_17 : decode cX1_countPossible 17 = .ok (.iaload, 1) := by decide +kernel
theorem dX1_countPossible_18 : decode cX1_countPossible 18 = .ok (.ifCond .ne 9, 3) := by decide +kernel
theorem dX1_countPossible_21 : decode cX1_countPossible 21 = .ok (.iload_n 1, 1) := by decide +kernel
theorem dX1_countPossible_22 : decode cX1_countPossible 22 = .ok (.iconst 1, 1) := by decide +kernel
theorem dX1_countPossible_23 : decode cX1_countPossible 23 = .ok (.iadd, 1) := by decide +kernel
theorem dX1_countPossible_24 : decode cX1_countPossible 24 = .ok (.goto 4, 3) := by decide +kernel
theorem dX1_countPossible_27 : decode cX1_countPossible 27 = .ok (.iload_n 1, 1) := by decide +kernel
theorem dX1_countPossible_28 : decode cX1_countPossible 28 = .ok (.istore_n 1, 1) := by decide +kernel
theorem dX1_countPossible_29 : decode cX1_countPossible 29 = .ok (.iinc 2 1, 3) := by decide +kernel
theorem dX1_countPossible_32 : decode cX1_countPossible 32 = .ok (.goto (-28), 3) := by decide +kernel
theorem dX1_countPossible_35 : decode cX1_countPossible 35 = .ok (.iload_n 1, 1) := by decide +kernel
theorem dX1_countPossible_36 : decode cX1_countPossible 36 = .ok (.ireturn, 1) := by decide +kernel
theorem dX1_forget_0 : decode cX1_forget 0 = .ok (.aload_n 0, 1) := by decide +kernel
theorem dX1_forget_1 : decode cX1_forget 1 = .ok (.getfield 58, 3) := by decide +kernel
theorem dX1_forget_4 : decode cX1_forget 4 = .ok (.ifCond .ne 6, 3) := by decide +kernel
theorem dX1_forget_7 : decode cX1_forget 7 = .ok (.bipush (-3), 2) := by decide +kernel
theorem dX1_forget_9 : decode cX1_forget 9 = .ok (.ireturn, 1) := by decide +kernel
theorem dX1_forget_10 : decode cX1_forget 10 = .ok (.aload_n 0, 1) := by decide +kernel
theorem dX1_forget_11 : decode cX1_forget 11 = .ok (.dup, 1) := by decide +kernel
theorem dX1_forget_12 : decode cX1_forget 12 = .ok (.getfield 58, 3) := by decide +kernel
theorem dX1_forget_15 : decode cX1_forget 15 = .ok (.iconst 1, 1) := by decide +kernel
theorem dX1_forget_16 : decode cX1_forget 16 = .ok (.isub, 1) := by decide +kernel
theorem dX1_forget_17 : decode cX1_forget 17 = .ok (.putfield 58, 3) := by decide +kernel
theorem dX1_forget_20 : decode cX1_forget 20 = .ok (.aload_n 0, 1) := by decide +kernel
theorem dX1_forget_21 : decode cX1_forget 21 = .ok (.aload_n 0, 1) := by decide +kernel
theorem dX1_forget_22 : decode cX1_forget 22 = .ok (.getfield 58, 3) := by decide +kernel
theorem dX1_forget_25 : decode cX1_forget 25 = .ok (.iconst (-1), 1) := by decide +kernel
theorem dX1_forget_26 : decode cX1_forget 26 = .ok (.invokevirtual 61, 3) := by decide +kernel
theorem dX1_forget_29 : decode cX1_forget 29 = .ok (.aload_n 0, 1) := by decide +kernel
theorem dX1_forget_30 : decode cX1_forget 30 = .ok (.invokevirtual 65, 3) := by decide +kernel
theorem dX1_forget_33 : decode cX1_forget 33 = .ok (.ireturn, 1) := by decide +kernel
theorem dX1_told_0 : decode cX1_told 0 = .ok (.aload_n 0, 1) := by decide +kernel
theorem dX1_told_1 : decode cX1_told 1 = .ok (.getfield 58, 3) := by decide +kernel
theorem dX1_told_4 : decode cX1_told 4 = .ok (.ireturn, 1) := by decide +kernel
theorem dX1_possible_0 : decode cX1_possible 0 = .ok (.aload_n 0, 1) := by decide +kernel
theorem dX1_possible_1 : decode cX1_possible 1 = .ok (.invokevirtual 65, 3) := by decide +kernel
theorem dX1_possible_4 : decode cX1_possible 4 = .ok (.ireturn, 1) := by decide +kernel
theorem dX1_code_0 : decode cX1_code 0 = .ok (.iconst 0, 1) := by decide +kernel
theorem dX1_code_1 : decode cX1_code 1 = .ok (.istore_n 2, 1) := by decide +kernel
theorem dX1_code_2 : decode cX1_code 2 = .ok (.iconst 0, 1) := by decide +kernel
theorem dX1_code_3 : decode cX1_code 3 = .ok (.istore_n 3, 1) := by decide +kernel
theorem dX1_code_4 : decode cX1_code 4 = .ok (.iload_n 3, 1) := by decide +kernel
theorem dX1_code_5 : decode cX1_code 5 = .ok (.aload_n 0, 1) := by decide +kernel
theorem dX1_code_6 : decode cX1_code 6 = .ok (.getfield 47, 3) := by decide +kernel
theorem dX1_code_9 : decode cX1_code 9 = .ok (.if_icmp .ge 28, 3) := by decide +kernel
theorem dX1_code_12 : decode cX1_code 12 = .ok (.aload_n 0, 1) := by decide +kernel
theorem dX1_code_13 : decode cX1_code 13 = .ok (.getfield 22, 3) := by decide +kernel
theorem dX1_code_16 : decode cX1_code 16 = .ok (.iload_n 3, 1) := by decide +kernel
theorem dX1_code_17 : decode cX1_code 17 = .ok (.iaload, 1) := by decide +kernel
theorem dX1_code_18 : decode cX1_code 18 = .ok (.ifCond .ne 13, 3) := by decide +kernel
theorem dX1_code_21 : decode cX1_code 21 = .ok (.iload_n 2, 1) := by decide +kernel
theorem dX1_code_22 : decode cX1_code 22 = .ok (.iload_n 1, 1) := by decide +kernel
theorem dX1_code_23 : decode cX1_code 23 = .ok (.if_icmp .ne 5, 3) := by decide +kernel
theorem dX1_code_26 : decode cX1_code 26 = .ok (.iload_n 3, 1) := by decide +kernel
theorem dX1_code_27 : decode cX1_code 27 = .ok (.ireturn, 1) := by decide +kernel
theorem dX1_code_28 : decode cX1_code 28 = .ok (.iinc 2 1, 3) := by decide +kernel
theorem dX1_code_31 : decode cX1_code 31 = .ok (.iinc 3 1, 3) := by decide +kernel
theorem dX1_code_34 : decode cX1_code 34 = .ok (.goto (-30), 3) := by decide +kernel
theorem dX1_code_37 : decode cX1_code 37 = .ok (.bipush (-3), 2) := by decide +kernel
theorem dX1_code_39 : decode cX1_code 39 = .ok (.ireturn, 1) := by decide +kernel
theorem dX1_canBe_0 : decode cX1_canBe 0 = .ok (.aload_n 0, 1) := by decide +kernel
theorem dX1_canBe_1 : decode cX1_canBe 1 = .ok (.iload_n 1, 1) := by decide +kernel
theorem dX1_canBe_2 : decode cX1_canBe 2 = .ok (.invokevirtual 50, 3) := by decide +kernel
theorem dX1_canBe_5 : decode cX1_canBe 5 = .ok (.ifCond .ne 16, 3) := by decide +kernel
theorem dX1_canBe_8 : decode cX1_canBe 8 = .ok (.aload_n 0, 1) := by decide +kernel
theorem dX1_canBe_9 : decode cX1_canBe 9 = .ok (.getfield 22, 3) := by decide +kernel
theorem dX1_canBe_12 : decode cX1_canBe 12 = .ok (.iload_n 1, 1) := by decide +kernel
theorem dX1_canBe_13 : decode cX1_canBe 13 = .ok (.iaload, 1) := by decide +kernel
theorem dX1_canBe_14 : decode cX1_canBe 14 = .ok (.ifCond .ne 7, 3) := by decide +kernel
theorem dX1_canBe_17 : decode cX1_canBe 17 = .ok (.iconst 1, 1) := by decide +kernel
theorem dX1_canBe_18 : decode cX1_canBe 18 = .ok (.goto 4, 3) := by decide +kernel
theorem dX1_canBe_21 : decode cX1_canBe 21 = .ok (.iconst 0, 1) := by decide +kernel
theorem dX1_canBe_22 : decode cX1_canBe 22 = .ok (.ireturn, 1) := by decide +kernel
theorem dX1_parts_0 : decode cX1_parts 0 = .ok (.aload_n 0, 1) := by decide +kernel
theorem dX1_parts_1 : decode cX1_parts 1 = .ok (.iload_n 1, 1) := by decide +kernel
theorem dX1_parts_2 : decode cX1_parts 2 = .ok (.invokevirtual 50, 3) := by decide +kernel
theorem dX1_parts_5 : decode cX1_parts 5 = .ok (.ifCond .eq 5, 3) := by decide +kernel
theorem dX1_parts_8 : decode cX1_parts 8 = .ok (.iconst (-1), 1) := by decide +kernel
theorem dX1_parts_9 : decode cX1_parts 9 = .ok (.ireturn, 1) := by decide +kernel
theorem dX1_parts_10 : decode cX1_parts 10 = .ok (.aload_n 0, 1) := by decide +kernel
theorem dX1_parts_11 : decode cX1_parts 11 = .ok (.iload_n 1, 1) := by decide +kernel
theorem dX1_parts_12 : decode cX1_parts 12 = .ok (.invokevirtual 78, 3) := by decide +kernel
theorem dX1_parts_15 : decode cX1_parts 15 = .ok (.aload_n 0, 1) := by decide +kernel
theorem dX1_parts_16 : decode cX1_parts 16 = .ok (.getfield 69, 3) := by decide +kernel
theorem dX1_parts_19 : decode cX1_parts 19 = .ok (.ireturn, 1) := by decide +kernel
theorem dX1_partBy_0 : decode cX1_partBy 0 = .ok (.iconst 0, 1) := by decide +kernel
theorem dX1_partBy_1 : decode cX1_partBy 1 = .ok (.istore_n 2, 1) := by decide +kernel
theorem dX1_partBy_2 : decode cX1_partBy 2 = .ok (.iload_n 2, 1) := by decide +kernel
theorem dX1_partBy_3 : decode cX1_partBy 3 = .ok (.bipush 45, 2) := by decide +kernel
theorem dX1_partBy_5 : decode cX1_partBy 5 = .ok (.if_icmp .ge 16, 3) := by decide +kernel
theorem dX1_partBy_8 : decode cX1_partBy 8 = .ok (.aload_n 0, 1) := by decide +kernel
theorem dX1_partBy_9 : decode cX1_partBy 9 = .ok (.getfield 25, 3) := by decide +kernel
theorem dX1_partBy_12 : decode cX1_partBy 12 = .ok (.iload_n 2, 1) := by decide +kernel
theorem dX1_partBy_13 : decode cX1_partBy 13 = .ok (.iconst 0, 1) := by decide +kernel
theorem dX1_partBy_14 : decode cX1_partBy 14 = .ok (.iastore, 1) := by decide +kernel
theorem dX1_partBy_15 : decode cX1_partBy 15 = .ok (.iinc 2 1, 3) := by decide +kernel
theorem dX1_partBy_18 : decode cX1_partBy 18 = .ok (.goto (-16), 3) := by decide +kernel
theorem dX1_partBy_21 : decode cX1_partBy 21 = .ok (.iconst 0, 1) := by decide +kernel
theorem dX1_partBy_22 : decode cX1_partBy 22 = .ok (.istore_n 2, 1) := by decide +kernel
theorem dX1_partBy_23 : decode cX1_partBy 23 = .ok (.iload_n 2, 1) := by decide +kernel
theorem dX1_partBy_24 : decode cX1_partBy 24 = .ok (.aload_n 0, 1) := by decide +kernel
theorem dX1_partBy_25 : decode cX1_partBy 25 = .ok (.getfield 47, 3) := by decide +kernel
theorem dX1_partBy_28 : decode cX1_partBy 28 = .ok (.if_icmp .ge 39, 3) := by decide +kernel
theorem dX1_partBy_31 : decode cX1_partBy 31 = .ok (.aload_n 0, 1) := by decide +kernel
theorem dX1_partBy_32 : decode cX1_partBy 32 = .ok (.getfield 22, 3) := by decide +kernel
theorem dX1_partBy_35 : decode cX1_partBy 35 = .ok (.iload_n 2, 1) := by decide +kernel
theorem dX1_partBy_36 : decode cX1_partBy 36 = .ok (.iaload, 1) := by decide +kernel
theorem dX1_partBy_37 : decode cX1_partBy 37 = .ok (.ifCond .ne 24, 3) := by decide +kernel
theorem dX1_partBy_40 : decode cX1_partBy 40 = .ok (.aload_n 0, 1) := by decide +kernel
theorem dX1_partBy_41 : decode cX1_partBy 41 = .ok (.iload_n 1, 1) := by decide +kernel
theorem dX1_partBy_42 : decode cX1_partBy 42 = .ok (.iload_n 2, 1) := by decide +kernel
theorem dX1_partBy_43 : decode cX1_partBy 43 = .ok (.invokevirtual 54, 3) := by decide +kernel
theorem dX1_partBy_46 : decode cX1_partBy 46 = .ok (.istore_n 3, 1) := by decide +kernel
theorem dX1_partBy_47 : decode cX1_partBy 47 = .ok (.aload_n 0, 1) := by decide +kernel
theorem dX1_partBy_48 : decode cX1_partBy 48 = .ok (.getfield 25, 3) := by decide +kernel
theorem dX1_partBy_51 : decode cX1_partBy 51 = .ok (.iload_n 3, 1) := by decide +kernel
theorem dX1_partBy_52 : decode cX1_partBy 52 = .ok (.aload_n 0, 1) := by decide +kernel
theorem dX1_partBy_53 : decode cX1_partBy 53 = .ok (.getfield 25, 3) := by decide +kernel
theorem dX1_partBy_56 : decode cX1_partBy 56 = .ok (.iload_n 3, 1) := by decide +kernel
theorem dX1_partBy_57 : decode cX1_partBy 57 = .ok (.iaload, 1) := by decide +kernel
theorem dX1_partBy_58 : decode cX1_partBy 58 = .ok (.iconst 1, 1) := by decide +kernel
theorem dX1_partBy_59 : decode cX1_partBy 59 = .ok (.iadd, 1) := by decide +kernel
theorem dX1_partBy_60 : decode cX1_partBy 60 = .ok (.iastore, 1) := by decide +kernel
theorem dX1_partBy_61 : decode cX1_partBy 61 = .ok (.iinc 2 1, 3) := by decide +kernel
theorem dX1_partBy_64 : decode cX1_partBy 64 = .ok (.goto (-41), 3) := by decide +kernel
theorem dX1_partBy_67 : decode cX1_partBy 67 = .ok (.aload_n 0, 1) := by decide +kernel
theorem dX1_partBy_68 : decode cX1_partBy 68 = .ok (.iconst 0, 1) := by decide +kernel
theorem dX1_partBy_69 : decode cX1_partBy 69 = .ok (.putfield 69, 3) := by decide +kernel
theorem dX1_partBy_72 : decode cX1_partBy 72 = .ok (.aload_n 0, 1) := by decide +kernel
theorem dX1_partBy_73 : decode cX1_partBy 73 = .ok (.iconst 0, 1) := by decide +kernel
theorem dX1_partBy_74 : decode cX1_partBy 74 = .ok (.putfield 72, 3) := by decide +kernel
theorem dX1_partBy_77 : decode cX1_partBy 77 = .ok (.aload_n 0, 1) := by decide +kernel
theorem dX1_partBy_78 : decode cX1_partBy 78 = .ok (.iconst 0, 1) := by decide +kernel
theorem dX1_partBy_79 : decode cX1_partBy 79 = .ok (.putfield 75, 3) := by decide +kernel
theorem dX1_partBy_82 : decode cX1_partBy 82 = .ok (.iconst 0, 1) := by decide +kernel
theorem dX1_partBy_83 : decode cX1_partBy 83 = .ok (.istore_n 2, 1) := by decide +kernel
theorem dX1_partBy_84 : decode cX1_partBy 84 = .ok (.iload_n 2, 1) := by decide +kernel
theorem dX1_partBy_85 : decode cX1_partBy 85 = .ok (.bipush 45, 2) := by decide +kernel
theorem dX1_partBy_87 : decode cX1_partBy 87 = .ok (.if_icmp .ge 69, 3) := by decide +kernel
theorem dX1_partBy_90 : decode cX1_partBy 90 = .ok (.aload_n 0, 1) := by decide +kernel
theorem dX1_partBy_91 : decode cX1_partBy 91 = .ok (.getfield 25, 3) := by decide +kernel
theorem dX1_partBy_94 : decode cX1_partBy 94 = .ok (.iload_n 2, 1) := by decide +kernel
theorem dX1_partBy_95 : decode cX1_partBy 95 = .ok (.iaload, 1) := by decide +kernel
theorem dX1_partBy_96 : decode cX1_partBy 96 = .ok (.istore_n 3, 1) := by decide +kernel
theorem dX1_partBy_97 : decode cX1_partBy 97 = .ok (.aload_n 0, 1) := by decide +kernel
theorem dX1_partBy_98 : decode cX1_partBy 98 = .ok (.iload_n 3, 1) := by decide +kernel
theorem dX1_partBy_99 : decode cX1_partBy 99 = .ok (.ifCond .le 12, 3) := by decide +kernel
theorem dX1_partBy_102 : decode cX1_partBy 102 = .ok (.aload_n 0, 1) := by decide +kernel
theorem dX1_partBy_103 : decode cX1_partBy 103 = .ok (.getfield 69, 3) := by decide +kernel
theorem dX1_partBy_106 : decode cX1_partBy 106 = .ok (.iconst 1, 1) := by decide +kernel
theorem dX1_partBy_107 : decode cX1_partBy 107 = .ok (.iadd, 1) := by decide +kernel
theorem dX1_partBy_108 : decode cX1_partBy 108 = .ok (.goto 7, 3) := by decide +kernel
theorem dX1_partBy_111 : decode cX1_partBy 111 = .ok (.aload_n 0, 1) := by decide +kernel
theorem dX1_partBy_112 : decode cX1_partBy 112 = .ok (.getfield 69, 3) := by decide +kernel
theorem dX1_partBy_115 : decode cX1_partBy 115 = .ok (.putfield 69, 3) := by decide +kernel
theorem dX1_partBy_118 : decode cX1_partBy 118 = .ok (.aload_n 0, 1) := by decide +kernel
theorem dX1_partBy_119 : decode cX1_partBy 119 = .ok (.iload_n 3, 1) := by decide +kernel
theorem dX1_partBy_120 : decode cX1_partBy 120 = .ok (.aload_n 0, 1) := by decide +kernel
theorem dX1_partBy_121 : decode cX1_partBy 121 = .ok (.getfield 72, 3) := by decide +kernel
theorem dX1_partBy_124 : decode cX1_partBy 124 = .ok (.if_icmp .le 7, 3) := by decide +kernel
theorem dX1_partBy_127 : decode cX1_partBy 127 = .ok (.iload_n 3, 1) := by decide +kernel
theorem dX1_partBy_128 : decode cX1_partBy 128 = .ok (.goto 7, 3) := by decide +kernel
theorem dX1_partBy_131 : decode cX1_partBy 131 = .ok (.aload_n 0, 1) := by decide +kernel
theorem dX1_partBy_132 : decode cX1_partBy 132 = .ok (.getfield 72, 3) := by decide +kernel
theorem dX1_partBy_135 : decode cX1_partBy 135 = .ok (.putfield 72, 3) := by decide +kernel
theorem dX1_partBy_138 : decode cX1_partBy 138 = .ok (.aload_n 0, 1) := by decide +kernel
theorem dX1_partBy_139 : decode cX1_partBy 139 = .ok (.aload_n 0, 1) := by decide +kernel
theorem dX1_partBy_140 : decode cX1_partBy 140 = .ok (.getfield 75, 3) := by decide +kernel
theorem dX1_partBy_143 : decode cX1_partBy 143 = .ok (.iload_n 3, 1) := by decide +kernel
theorem dX1_partBy_144 : decode cX1_partBy 144 = .ok (.iload_n 3, 1) := by decide +kernel
theorem dX1_partBy_145 : decode cX1_partBy 145 = .ok (.imul, 1) := by decide +kernel
theorem dX1_partBy_146 : decode cX1_partBy 146 = .ok (.iadd, 1) := by decide +kernel
theorem dX1_partBy_147 : decode cX1_partBy 147 = .ok (.putfield 75, 3) := by decide +kernel
theorem dX1_partBy_150 : decode cX1_partBy 150 = .ok (.iinc 2 1, 3) := by decide +kernel
theorem dX1_partBy_153 : decode cX1_partBy 153 = .ok (.goto (-69), 3) := by decide +kernel
theorem dX1_partBy_156 : decode cX1_partBy 156 = .ok (.return_, 1) := by decide +kernel
theorem dX1_worst_0 : decode cX1_worst 0 = .ok (.aload_n 0, 1) := by decide +kernel
theorem dX1_worst_1 : decode cX1_worst 1 = .ok (.iload_n 1, 1) := by decide +kernel
theorem dX1_worst_2 : decode cX1_worst 2 = .ok (.invokevirtual 50, 3) := by decide +kernel
theorem dX1_worst_5 : decode cX1_worst 5 = .ok (.ifCond .eq 5, 3) := by decide +kernel
theorem dX1_worst_8 : decode cX1_worst 8 = .ok (.iconst (-1), 1) := by decide +kernel
theorem dX1_worst_9 : decode cX1_worst 9 = .ok (.ireturn, 1) := by decide +kernel
theorem dX1_worst_10 : decode cX1_worst 10 = .ok (.aload_n 0, 1) := by decide +kernel
theorem dX1_worst_11 : decode cX1_worst 11 = .ok (.iload_n 1, 1) := by decide +kernel
theorem dX1_worst_12 : decode cX1_worst 12 = .ok (.invokevirtual 78, 3) := by decide +kernel
theorem dX1_worst_15 : decode cX1_worst 15 = .ok (.aload_n 0, 1) := by decide +kernel
theorem dX1_worst_16 : decode cX1_worst 16 = .ok (.getfield 72, 3) := by decide +kernel
theorem dX1_worst_19 : decode cX1_worst 19 = .ok (.ireturn, 1) := by decide +kernel
theorem dX1_weight_0 : decode cX1_weight 0 = .ok (.aload_n 0, 1) := by decide +kernel
theorem dX1_weight_1 : decode cX1_weight 1 = .ok (.iload_n 1, 1) := by decide +kernel
theorem dX1_weight_2 : decode cX1_weight 2 = .ok (.invokevirtual 50, 3) := by decide +kernel
theorem dX1_weight_5 : decode cX1_weight 5 = .ok (.ifCond .eq 5, 3) := by decide +kernel
theorem dX1_weight_8 : decode cX1_weight 8 = .ok (.iconst (-1), 1) := by decide +kernel
theorem dX1_weight_9 : decode cX1_weight 9 = .ok (.ireturn, 1) := by decide +kernel
theorem dX1_weight_10 : decode cX1_weight 10 = .ok (.aload_n 0, 1) := by decide +kernel
theorem dX1_weight_11 : decode cX1_weight 11 = .ok (.iload_n 1, 1) := by decide +kernel
theorem dX1_weight_12 : decode cX1_weight 12 = .ok (.invokevirtual 78, 3) := by decide +kernel
theorem dX1_weight_15 : decode cX1_weight 15 = .ok (.aload_n 0, 1) := by decide +kernel
theorem dX1_weight_16 : decode cX1_weight 16 = .ok (.getfield 75, 3) := by decide +kernel
theorem dX1_weight_19 : decode cX1_weight 19 = .ok (.ireturn, 1) := by decide +kernel
theorem dX1_safest_0 : decode cX1_safest 0 = .ok (.aload_n 0, 1) := by decide +kernel
theorem dX1_safest_1 : decode cX1_safest 1 = .ok (.iconst 0, 1) := by decide +kernel
theorem dX1_safest_2 : decode cX1_safest 2 = .ok (.invokevirtual 83, 3) := by decide +kernel
theorem dX1_safest_5 : decode cX1_safest 5 = .ok (.ireturn, 1) := by decide +kernel
theorem dX1_bestBy_0 : decode cX1_bestBy 0 = .ok (.aload_n 0, 1) := by decide +kernel
theorem dX1_bestBy_1 : decode cX1_bestBy 1 = .ok (.invokevirtual 65, 3) := by decide +kernel
theorem dX1_bestBy_4 : decode cX1_bestBy 4 = .ok (.ifCond .ne 6, 3) := by decide +kernel
theorem dX1_bestBy_7 : decode cX1_bestBy 7 = .ok (.bipush (-3), 2) := by decide +kernel
theorem dX1_bestBy_9 : decode cX1_bestBy 9 = .ok (.ireturn, 1) := by decide +kernel
theorem dX1_bestBy_10 : decode cX1_bestBy 10 = .ok (.bipush (-3), 2) := by decide +kernel
theorem dX1_bestBy_12 : decode cX1_bestBy 12 = .ok (.istore_n 2, 1) := by decide +kernel
theorem dX1_bestBy_13 : decode cX1_bestBy 13 = .ok (.ldc 82, 2) := by decide +kernel
theorem dX1_bestBy_15 : decode cX1_bestBy 15 = .ok (.istore_n 3, 1) := by decide +kernel
theorem dX1_bestBy_16 : decode cX1_bestBy 16 = .ok (.iconst 0, 1) := by decide +kernel
theorem dX1_bestBy_17 : decode cX1_bestBy 17 = .ok (.istore 4, 2) := by decide +kernel
theorem dX1_bestBy_19 : decode cX1_bestBy 19 = .ok (.iload 4, 2) := by decide +kernel
theorem dX1_bestBy_21 : decode cX1_bestBy 21 = .ok (.aload_n 0, 1) := by decide +kernel
theorem dX1_bestBy_22 : decode cX1_bestBy 22 = .ok (.getfield 47, 3) := by decide +kernel
theorem dX1_bestBy_25 : decode cX1_bestBy 25 = .ok (.if_icmp .ge 76, 3) := by decide +kernel
theorem dX1_bestBy_28 : decode cX1_bestBy 28 = .ok (.aload_n 0, 1) := by decide +kernel
theorem dX1_bestBy_29 : decode cX1_bestBy 29 = .ok (.iload 4, 2) := by decide +kernel
theorem dX1_bestBy_31 : decode cX1_bestBy 31 = .ok (.invokevirtual 78, 3) := by decide +kernel
theorem dX1_bestBy_34 : decode cX1_bestBy 34 = .ok (.iconst 2, 1) := by decide +kernel
theorem dX1_bestBy_35 : decode cX1_bestBy 35 = .ok (.iload_n 1, 1) := by decide +kernel
theorem dX1_bestBy_36 : decode cX1_bestBy 36 = .ok (.ifCond .eq 10, 3) := by decide +kernel
end
section
set_option maxRecDepth 100000
theorem dX1_bestBy_39 : decode cX1_bestBy 39 = .ok (.aload_n 0, 1) := by decide +kernel
theorem dX1_bestBy_40 : decode cX1_bestBy 40 = .ok (.getfield 75, 3) := by decide +kernel
theorem dX1_bestBy_43 : decode cX1_bestBy 43 = .ok (.goto 7, 3) := by decide +kernel
theorem dX1_bestBy_46 : decode cX1_bestBy 46 = .ok (.aload_n 0, 1) := by decide +kernel
theorem dX1_bestBy_47 : decode cX1_bestBy 47 = .ok (.getfield 72, 3) := by decide +kernel
theorem dX1_bestBy_50 : decode cX1_bestBy 50 = .ok (.imul, 1) := by decide +kernel
theorem dX1_bestBy_51 : decode cX1_bestBy 51 = .ok (.aload_n 0, 1) := by decide +kernel
theorem dX1_bestBy_52 : decode cX1_bestBy 52 = .ok (.getfield 22, 3) := by decide +kernel
theorem dX1_bestBy_55 : decode cX1_bestBy 55 = .ok (.iload 4, 2) := by decide +kernel
theorem dX1_bestBy_57 : decode cX1_bestBy 57 = .ok (.iaload, 1) := by decide +kernel
theorem dX1_bestBy_58 : decode cX1_bestBy 58 = .ok (.ifCond .ne 7, 3) := by decide +kernel
theorem dX1_bestBy_61 : decode cX1_bestBy 61 = .ok (.iconst 0, 1) := by decide +kernel
theorem dX1_bestBy_62 : decode cX1_bestBy 62 = .ok (.goto 4, 3) := by decide +kernel
theorem dX1_bestBy_65 : decode cX1_bestBy 65 = .ok (.iconst 1, 1) := by decide +kernel
theorem dX1_bestBy_66 : decode cX1_bestBy 66 = .ok (.iadd, 1) := by decide +kernel
theorem dX1_bestBy_67 : decode cX1_bestBy 67 = .ok (.istore 5, 2) := by decide +kernel
theorem dX1_bestBy_69 : decode cX1_bestBy 69 = .ok (.iload 5, 2) := by decide +kernel
theorem dX1_bestBy_71 : decode cX1_bestBy 71 = .ok (.iload_n 3, 1) := by decide +kernel
theorem dX1_bestBy_72 : decode cX1_bestBy 72 = .ok (.if_icmp .ge 8, 3) := by decide +kernel
theorem dX1_bestBy_75 : decode cX1_bestBy 75 = .ok (.iload 4, 2) := by decide +kernel
theorem dX1_bestBy_77 : decode cX1_bestBy 77 = .ok (.goto 4, 3) := by decide +kernel
theorem dX1_bestBy_80 : decode cX1_bestBy 80 = .ok (.iload_n 2, 1) := by decide +kernel
theorem dX1_bestBy_81 : decode cX1_bestBy 81 = .ok (.istore_n 2, 1) := by decide +kernel
theorem dX1_bestBy_82 : decode cX1_bestBy 82 = .ok (.iload 5, 2) := by decide +kernel
theorem dX1_bestBy_84 : decode cX1_bestBy 84 = .ok (.iload_n 3, 1) := by decide +kernel
theorem dX1_bestBy_85 : decode cX1_bestBy 85 = .ok (.if_icmp .ge 8, 3) := by decide +kernel
theorem dX1_bestBy_88 : decode cX1_bestBy 88 = .ok (.iload 5, 2) := by decide +kernel
theorem dX1_bestBy_90 : decode cX1_bestBy 90 = .ok (.goto 4, 3) := by decide +kernel
theorem dX1_bestBy_93 : decode cX1_bestBy 93 = .ok (.iload_n 3, 1) := by decide +kernel
theorem dX1_bestBy_94 : decode cX1_bestBy 94 = .ok (.istore_n 3, 1) := by decide +kernel
theorem dX1_bestBy_95 : decode cX1_bestBy 95 = .ok (.iinc 4 1, 3) := by decide +kernel
theorem dX1_bestBy_98 : decode cX1_bestBy 98 = .ok (.goto (-79), 3) := by decide +kernel
theorem dX1_bestBy_101 : decode cX1_bestBy 101 = .ok (.iload_n 2, 1) := by decide +kernel
theorem dX1_bestBy_102 : decode cX1_bestBy 102 = .ok (.ireturn, 1) := by decide +kernel
theorem dX1_sharpest_0 : decode cX1_sharpest 0 = .ok (.aload_n 0, 1) := by decide +kernel
theorem dX1_sharpest_1 : decode cX1_sharpest 1 = .ok (.iconst 1, 1) := by decide +kernel
theorem dX1_sharpest_2 : decode cX1_sharpest 2 = .ok (.invokevirtual 83, 3) := by decide +kernel
theorem dX1_sharpest_5 : decode cX1_sharpest 5 = .ok (.ireturn, 1) := by decide +kernel
theorem dX1_need_0 : decode cX1_need 0 = .ok (.aload_n 0, 1) := by decide +kernel
theorem dX1_need_1 : decode cX1_need 1 = .ok (.iconst 0, 1) := by decide +kernel
theorem dX1_need_2 : decode cX1_need 2 = .ok (.invokevirtual 104, 3) := by decide +kernel
theorem dX1_need_5 : decode cX1_need 5 = .ok (.ireturn, 1) := by decide +kernel
theorem dX1_needBy_0 : decode cX1_needBy 0 = .ok (.aload_n 0, 1) := by decide +kernel
theorem dX1_needBy_1 : decode cX1_needBy 1 = .ok (.invokevirtual 65, 3) := by decide +kernel
theorem dX1_needBy_4 : decode cX1_needBy 4 = .ok (.istore_n 2, 1) := by decide +kernel
theorem dX1_needBy_5 : decode cX1_needBy 5 = .ok (.iload_n 2, 1) := by decide +kernel
theorem dX1_needBy_6 : decode cX1_needBy 6 = .ok (.bipush 8, 2) := by decide +kernel
theorem dX1_needBy_8 : decode cX1_needBy 8 = .ok (.if_icmp .le 6, 3) := by decide +kernel
theorem dX1_needBy_11 : decode cX1_needBy 11 = .ok (.bipush (-4), 2) := by decide +kernel
theorem dX1_needBy_13 : decode cX1_needBy 13 = .ok (.ireturn, 1) := by decide +kernel
theorem dX1_needBy_14 : decode cX1_needBy 14 = .ok (.aload_n 0, 1) := by decide +kernel
theorem dX1_needBy_15 : decode cX1_needBy 15 = .ok (.invokevirtual 97, 3) := by decide +kernel
theorem dX1_needBy_18 : decode cX1_needBy 18 = .ok (.aload_n 0, 1) := by decide +kernel
theorem dX1_needBy_19 : decode cX1_needBy 19 = .ok (.iload_n 1, 1) := by decide +kernel
theorem dX1_needBy_20 : decode cX1_needBy 20 = .ok (.invokevirtual 100, 3) := by decide +kernel
theorem dX1_needBy_23 : decode cX1_needBy 23 = .ok (.aload_n 0, 1) := by decide +kernel
theorem dX1_needBy_24 : decode cX1_needBy 24 = .ok (.getfield 34, 3) := by decide +kernel
theorem dX1_needBy_27 : decode cX1_needBy 27 = .ok (.iconst 1, 1) := by decide +kernel
theorem dX1_needBy_28 : decode cX1_needBy 28 = .ok (.aload_n 0, 1) := by decide +kernel
theorem dX1_needBy_29 : decode cX1_needBy 29 = .ok (.getfield 87, 3) := by decide +kernel
theorem dX1_needBy_32 : decode cX1_needBy 32 = .ok (.ishl, 1) := by decide +kernel
theorem dX1_needBy_33 : decode cX1_needBy 33 = .ok (.iconst 1, 1) := by decide +kernel
theorem dX1_needBy_34 : decode cX1_needBy 34 = .ok (.isub, 1) := by decide +kernel
theorem dX1_needBy_35 : decode cX1_needBy 35 = .ok (.iaload, 1) := by decide +kernel
theorem dX1_needBy_36 : decode cX1_needBy 36 = .ok (.ireturn, 1) := by decide +kernel
theorem dX1_listFew_0 : decode cX1_listFew 0 = .ok (.aload_n 0, 1) := by decide +kernel
theorem dX1_listFew_1 : decode cX1_listFew 1 = .ok (.iconst 0, 1) := by decide +kernel
theorem dX1_listFew_2 : decode cX1_listFew 2 = .ok (.putfield 87, 3) := by decide +kernel
theorem dX1_listFew_5 : decode cX1_listFew 5 = .ok (.iconst 0, 1) := by decide +kernel
theorem dX1_listFew_6 : decode cX1_listFew 6 = .ok (.istore_n 1, 1) := by decide +kernel
theorem dX1_listFew_7 : decode cX1_listFew 7 = .ok (.iload_n 1, 1) := by decide +kernel
theorem dX1_listFew_8 : decode cX1_listFew 8 = .ok (.aload_n 0, 1) := by decide +kernel
theorem dX1_listFew_9 : decode cX1_listFew 9 = .ok (.getfield 47, 3) := by decide +kernel
theorem dX1_listFew_12 : decode cX1_listFew 12 = .ok (.if_icmp .ge 47, 3) := by decide +kernel
theorem dX1_listFew_15 : decode cX1_listFew 15 = .ok (.aload_n 0, 1) := by decide +kernel
theorem dX1_listFew_16 : decode cX1_listFew 16 = .ok (.getfield 87, 3) := by decide +kernel
theorem dX1_listFew_19 : decode cX1_listFew 19 = .ok (.bipush 8, 2) := by decide +kernel
theorem dX1_listFew_21 : decode cX1_listFew 21 = .ok (.if_icmp .ge 38, 3) := by decide +kernel
theorem dX1_listFew_24 : decode cX1_listFew 24 = .ok (.aload_n 0, 1) := by decide +kernel
theorem dX1_listFew_25 : decode cX1_listFew 25 = .ok (.getfield 22, 3) := by decide +kernel
theorem dX1_listFew_28 : decode cX1_listFew 28 = .ok (.iload_n 1, 1) := by decide +kernel
theorem dX1_listFew_29 : decode cX1_listFew 29 = .ok (.iaload, 1) := by decide +kernel
theorem dX1_listFew_30 : decode cX1_listFew 30 = .ok (.ifCond .ne 23, 3) := by decide +kernel
theorem dX1_listFew_33 : decode cX1_listFew 33 = .ok (.aload_n 0, 1) := by decide +kernel
theorem dX1_listFew_34 : decode cX1_listFew 34 = .ok (.getfield 28, 3) := by decide +kernel
theorem dX1_listFew_37 : decode cX1_listFew 37 = .ok (.aload_n 0, 1) := by decide +kernel
theorem dX1_listFew_38 : decode cX1_listFew 38 = .ok (.getfield 87, 3) := by decide +kernel
theorem dX1_listFew_41 : decode cX1_listFew 41 = .ok (.iload_n 1, 1) := by decide +kernel
theorem dX1_listFew_42 : decode cX1_listFew 42 = .ok (.iastore, 1) := by decide +kernel
theorem dX1_listFew_43 : decode cX1_listFew 43 = .ok (.aload_n 0, 1) := by decide +kernel
theorem dX1_listFew_44 : decode cX1_listFew 44 = .ok (.dup, 1) := by decide +kernel
theorem dX1_listFew_45 : decode cX1_listFew 45 = .ok (.getfield 87, 3) := by decide +kernel
theorem dX1_listFew_48 : decode cX1_listFew 48 = .ok (.iconst 1, 1) := by decide +kernel
theorem dX1_listFew_49 : decode cX1_listFew 49 = .ok (.iadd, 1) := by decide +kernel
theorem dX1_listFew_50 : decode cX1_listFew 50 = .ok (.putfield 87, 3) := by decide +kernel
theorem dX1_listFew_53 : decode cX1_listFew 53 = .ok (.iinc 1 1, 3) := by decide +kernel
theorem dX1_listFew_56 : decode cX1_listFew 56 = .ok (.goto (-49), 3) := by decide +kernel
theorem dX1_listFew_59 : decode cX1_listFew 59 = .ok (.iconst 0, 1) := by decide +kernel
theorem dX1_listFew_60 : decode cX1_listFew 60 = .ok (.istore_n 1, 1) := by decide +kernel
theorem dX1_listFew_61 : decode cX1_listFew 61 = .ok (.iload_n 1, 1) := by decide +kernel
theorem dX1_listFew_62 : decode cX1_listFew 62 = .ok (.aload_n 0, 1) := by decide +kernel
theorem dX1_listFew_63 : decode cX1_listFew 63 = .ok (.getfield 47, 3) := by decide +kernel
theorem dX1_listFew_66 : decode cX1_listFew 66 = .ok (.if_icmp .ge 47, 3) := by decide +kernel
theorem dX1_listFew_69 : decode cX1_listFew 69 = .ok (.iconst 0, 1) := by decide +kernel
theorem dX1_listFew_70 : decode cX1_listFew 70 = .ok (.istore_n 2, 1) := by decide +kernel
theorem dX1_listFew_71 : decode cX1_listFew 71 = .ok (.iload_n 2, 1) := by decide +kernel
theorem dX1_listFew_72 : decode cX1_listFew 72 = .ok (.aload_n 0, 1) := by decide +kernel
theorem dX1_listFew_73 : decode cX1_listFew 73 = .ok (.getfield 87, 3) := by decide +kernel
theorem dX1_listFew_76 : decode cX1_listFew 76 = .ok (.if_icmp .ge 31, 3) := by decide +kernel
theorem dX1_listFew_79 : decode cX1_listFew 79 = .ok (.aload_n 0, 1) := by decide +kernel
theorem dX1_listFew_80 : decode cX1_listFew 80 = .ok (.getfield 31, 3) := by decide +kernel
theorem dX1_listFew_83 : decode cX1_listFew 83 = .ok (.bipush 8, 2) := by decide +kernel
theorem dX1_listFew_85 : decode cX1_listFew 85 = .ok (.iload_n 1, 1) := by decide +kernel
theorem dX1_listFew_86 : decode cX1_listFew 86 = .ok (.imul, 1) := by decide +kernel
theorem dX1_listFew_87 : decode cX1_listFew 87 = .ok (.iload_n 2, 1) := by decide +kernel
theorem dX1_listFew_88 : decode cX1_listFew 88 = .ok (.iadd, 1) := by decide +kernel
theorem dX1_listFew_89 : decode cX1_listFew 89 = .ok (.aload_n 0, 1) := by decide +kernel
theorem dX1_listFew_90 : decode cX1_listFew 90 = .ok (.iload_n 1, 1) := by decide +kernel
theorem dX1_listFew_91 : decode cX1_listFew 91 = .ok (.aload_n 0, 1) := by decide +kernel
theorem dX1_listFew_92 : decode cX1_listFew 92 = .ok (.getfield 28, 3) := by decide +kernel
theorem dX1_listFew_95 : decode cX1_listFew 95 = .ok (.iload_n 2, 1) := by decide +kernel
theorem dX1_listFew_96 : decode cX1_listFew 96 = .ok (.iaload, 1) := by decide +kernel
theorem dX1_listFew_97 : decode cX1_listFew 97 = .ok (.invokevirtual 54, 3) := by decide +kernel
theorem dX1_listFew_100 : decode cX1_listFew 100 = .ok (.iastore, 1) := by decide +kernel
theorem dX1_listFew_101 : decode cX1_listFew 101 = .ok (.iinc 2 1, 3) := by decide +kernel
theorem dX1_listFew_104 : decode cX1_listFew 104 = .ok (.goto (-33), 3) := by decide +kernel
theorem dX1_listFew_107 : decode cX1_listFew 107 = .ok (.iinc 1 1, 3) := by decide +kernel
theorem dX1_listFew_110 : decode cX1_listFew 110 = .ok (.goto (-49), 3) := by decide +kernel
theorem dX1_listFew_113 : decode cX1_listFew 113 = .ok (.return_, 1) := by decide +kernel
theorem dX1_findNeeded_0 : decode cX1_findNeeded 0 = .ok (.aload_n 0, 1) := by decide +kernel
theorem dX1_findNeeded_1 : decode cX1_findNeeded 1 = .ok (.getfield 34, 3) := by decide +kernel
theorem dX1_findNeeded_4 : decode cX1_findNeeded 4 = .ok (.iconst 0, 1) := by decide +kernel
theorem dX1_findNeeded_5 : decode cX1_findNeeded 5 = .ok (.iconst 0, 1) := by decide +kernel
theorem dX1_findNeeded_6 : decode cX1_findNeeded 6 = .ok (.iastore, 1) := by decide +kernel
theorem dX1_findNeeded_7 : decode cX1_findNeeded 7 = .ok (.iconst 1, 1) := by decide +kernel
theorem dX1_findNeeded_8 : decode cX1_findNeeded 8 = .ok (.istore_n 2, 1) := by decide +kernel
theorem dX1_findNeeded_9 : decode cX1_findNeeded 9 = .ok (.iload_n 2, 1) := by decide +kernel
theorem dX1_findNeeded_10 : decode cX1_findNeeded 10 = .ok (.iconst 1, 1) := by decide +kernel
theorem dX1_findNeeded_11 : decode cX1_findNeeded 11 = .ok (.aload_n 0, 1) := by decide +kernel
theorem dX1_findNeeded_12 : decode cX1_findNeeded 12 = .ok (.getfield 87, 3) := by decide +kernel
theorem dX1_findNeeded_15 : decode cX1_findNeeded 15 = .ok (.ishl, 1) := by decide +kernel
theorem dX1_findNeeded_16 : decode cX1_findNeeded 16 = .ok (.if_icmp .ge 73, 3) := by decide +kernel
theorem dX1_findNeeded_19 : decode cX1_findNeeded 19 = .ok (.bipush 100, 2) := by decide +kernel
theorem dX1_findNeeded_21 : decode cX1_findNeeded 21 = .ok (.istore_n 3, 1) := by decide +kernel
theorem dX1_findNeeded_22 : decode cX1_findNeeded 22 = .ok (.iconst 0, 1) := by decide +kernel
theorem dX1_findNeeded_23 : decode cX1_findNeeded 23 = .ok (.istore 4, 2) := by decide +kernel
theorem dX1_findNeeded_25 : decode cX1_findNeeded 25 = .ok (.iload 4, 2) := by decide +kernel
theorem dX1_findNeeded_27 : decode cX1_findNeeded 27 = .ok (.aload_n 0, 1) := by decide +kernel
theorem dX1_findNeeded_28 : decode cX1_findNeeded 28 = .ok (.getfield 47, 3) := by decide +kernel
theorem dX1_findNeeded_31 : decode cX1_findNeeded 31 = .ok (.if_icmp .ge 45, 3) := by decide +kernel
theorem dX1_findNeeded_34 : decode cX1_findNeeded 34 = .ok (.iload_n 1, 1) := by decide +kernel
theorem dX1_findNeeded_35 : decode cX1_findNeeded 35 = .ok (.ifCond .eq 13, 3) := by decide +kernel
theorem dX1_findNeeded_38 : decode cX1_findNeeded 38 = .ok (.aload_n 0, 1) := by decide +kernel
theorem dX1_findNeeded_39 : decode cX1_findNeeded 39 = .ok (.iload_n 2, 1) := by decide +kernel
theorem dX1_findNeeded_40 : decode cX1_findNeeded 40 = .ok (.iload 4, 2) := by decide +kernel
theorem dX1_findNeeded_42 : decode cX1_findNeeded 42 = .ok (.invokevirtual 90, 3) := by decide +kernel
theorem dX1_findNeeded_45 : decode cX1_findNeeded 45 = .ok (.ifCond .eq 25, 3) := by decide +kernel
theorem dX1_findNeeded_48 : decode cX1_findNeeded 48 = .ok (.aload_n 0, 1) := by decide +kernel
theorem dX1_findNeeded_49 : decode cX1_findNeeded 49 = .ok (.iload_n 2, 1) := by decide +kernel
theorem dX1_findNeeded_50 : decode cX1_findNeeded 50 = .ok (.iload 4, 2) := by decide +kernel
theorem dX1_findNeeded_52 : decode cX1_findNeeded 52 = .ok (.invokevirtual 94, 3) := by decide +kernel
theorem dX1_findNeeded_55 : decode cX1_findNeeded 55 = .ok (.istore 5, 2) := by decide +kernel
theorem dX1_findNeeded_57 : decode cX1_findNeeded 57 = .ok (.iload 5, 2) := by decide +kernel
theorem dX1_findNeeded_59 : decode cX1_findNeeded 59 = .ok (.iload_n 3, 1) := by decide +kernel
theorem dX1_findNeeded_60 : decode cX1_findNeeded 60 = .ok (.if_icmp .ge 8, 3) := by decide +kernel
theorem dX1_findNeeded_63 : decode cX1_findNeeded 63 = .ok (.iload 5, 2) := by decide +kernel
theorem dX1_findNeeded_65 : decode cX1_findNeeded 65 = .ok (.goto 4, 3) := by decide +kernel
theorem dX1_findNeeded_68 : decode cX1_findNeeded 68 = .ok (.iload_n 3, 1) := by decide +kernel
theorem dX1_findNeeded_69 : decode cX1_findNeeded 69 = .ok (.istore_n 3, 1) := by decide +kernel
theorem dX1_findNeeded_70 : decode cX1_findNeeded 70 = .ok (.iinc 4 1, 3) := by decide +kernel
theorem dX1_findNeeded_73 : decode cX1_findNeeded 73 = .ok (.goto (-48), 3) := by decide +kernel
theorem dX1_findNeeded_76 : decode cX1_findNeeded 76 = .ok (.aload_n 0, 1) := by decide +kernel
theorem dX1_findNeeded_77 : decode cX1_findNeeded 77 = .ok (.getfield 34, 3) := by decide +kernel
theorem dX1_findNeeded_80 : decode cX1_findNeeded 80 = .ok (.iload_n 2, 1) := by decide +kernel
theorem dX1_findNeeded_81 : decode cX1_findNeeded 81 = .ok (.iload_n 3, 1) := by decide +kernel
theorem dX1_findNeeded_82 : decode cX1_findNeeded 82 = .ok (.iastore, 1) := by decide +kernel
theorem dX1_findNeeded_83 : decode cX1_findNeeded 83 = .ok (.iinc 2 1, 3) := by decide +kernel
theorem dX1_findNeeded_86 : decode cX1_findNeeded 86 = .ok (.goto (-77), 3) := by decide +kernel
theorem dX1_findNeeded_89 : decode cX1_findNeeded 89 = .ok (.return_, 1) := by decide +kernel
theorem dX1_isOf_0 : decode cX1_isOf 0 = .ok (.iconst 0, 1) := by decide +kernel
theorem dX1_isOf_1 : decode cX1_isOf 1 = .ok (.istore_n 3, 1) := by decide +kernel
theorem dX1_isOf_2 : decode cX1_isOf 2 = .ok (.iconst 0, 1) := by decide +kernel
theorem dX1_isOf_3 : decode cX1_isOf 3 = .ok (.istore 4, 2) := by decide +kernel
theorem dX1_isOf_5 : decode cX1_isOf 5 = .ok (.iload 4, 2) := by decide +kernel
theorem dX1_isOf_7 : decode cX1_isOf 7 = .ok (.aload_n 0, 1) := by decide +kernel
theorem dX1_isOf_8 : decode cX1_isOf 8 = .ok (.getfield 87, 3) := by decide +kernel
theorem dX1_isOf_11 : decode cX1_isOf 11 = .ok (.if_icmp .ge 40, 3) := by decide +kernel
theorem dX1_isOf_14 : decode cX1_isOf 14 = .ok (.iload_n 3, 1) := by decide +kernel
theorem dX1_isOf_15 : decode cX1_isOf 15 = .ok (.ifCond .ne 24, 3) := by decide +kernel
theorem dX1_isOf_18 : decode cX1_isOf 18 = .ok (.iload_n 1, 1) := by decide +kernel
theorem dX1_isOf_19 : decode cX1_isOf 19 = .ok (.iload 4, 2) := by decide +kernel
theorem dX1_isOf_21 : decode cX1_isOf 21 = .ok (.ishr, 1) := by decide +kernel
theorem dX1_isOf_22 : decode cX1_isOf 22 = .ok (.iconst 1, 1) := by decide +kernel
theorem dX1_isOf_23 : decode cX1_isOf 23 = .ok (.iand, 1) := by decide +kernel
theorem dX1_isOf_24 : decode cX1_isOf 24 = .ok (.iconst 1, 1) := by decide +kernel
theorem dX1_isOf_25 : decode cX1_isOf 25 = .ok (.if_icmp .ne 18, 3) := by decide +kernel
theorem dX1_isOf_28 : decode cX1_isOf 28 = .ok (.aload_n 0, 1) := by decide +kernel
theorem dX1_isOf_29 : decode cX1_isOf 29 = .ok (.getfield 28, 3) := by decide +kernel
theorem dX1_isOf_32 : decode cX1_isOf 32 = .ok (.iload 4, 2) := by decide +kernel
theorem dX1_isOf_34 : decode cX1_isOf 34 = .ok (.iaload, 1) := by decide +kernel
theorem dX1_isOf_35 : decode cX1_isOf 35 = .ok (.iload_n 2, 1) := by decide +kernel
theorem dX1_isOf_36 : decode cX1_isOf 36 = .ok (.if_icmp .ne 7, 3) := by decide +kernel
theorem dX1_isOf_39 : decode cX1_isOf 39 = .ok (.iconst 1, 1) := by decide +kernel
theorem dX1_isOf_40 : decode cX1_isOf 40 = .ok (.goto 4, 3) := by decide +kernel
theorem dX1_isOf_43 : decode cX1_isOf 43 = .ok (.iconst 0, 1) := by decide +kernel
theorem dX1_isOf_44 : decode cX1_isOf 44 = .ok (.istore_n 3, 1) := by decide +kernel
theorem dX1_isOf_45 : decode cX1_isOf 45 = .ok (.iinc 4 1, 3) := by decide +kernel
theorem dX1_isOf_48 : decode cX1_isOf 48 = .ok (.goto (-43), 3) := by decide +kernel
theorem dX1_isOf_51 : decode cX1_isOf 51 = .ok (.iload_n 3, 1) := by decide +kernel
theorem dX1_isOf_52 : decode cX1_isOf 52 = .ok (.ireturn, 1) := by decide +kernel
theorem dX1_neededWith_0 : decode cX1_neededWith 0 = .ok (.bipush 10, 2) := by decide +kernel
theorem dX1_neededWith_2 : decode cX1_neededWith 2 = .ok (.aload_n 0, 1) := by decide +kernel
theorem dX1_neededWith_3 : decode cX1_neededWith 3 = .ok (.getfield 40, 3) := by decide +kernel
theorem dX1_neededWith_6 : decode cX1_neededWith 6 = .ok (.imul, 1) := by decide +kernel
theorem dX1_neededWith_7 : decode cX1_neededWith 7 = .ok (.istore_n 3, 1) := by decide +kernel
theorem dX1_neededWith_8 : decode cX1_neededWith 8 = .ok (.iconst 0, 1) := by decide +kernel
theorem dX1_neededWith_9 : decode cX1_neededWith 9 = .ok (.istore 4, 2) := by decide +kernel
theorem dX1_neededWith_11 : decode cX1_neededWith 11 = .ok (.iload 4, 2) := by decide +kernel
theorem dX1_neededWith_13 : decode cX1_neededWith 13 = .ok (.aload_n 0, 1) := by decide +kernel
theorem dX1_neededWith_14 : decode cX1_neededWith 14 = .ok (.getfield 87, 3) := by decide +kernel
theorem dX1_neededWith_17 : decode cX1_neededWith 17 = .ok (.if_icmp .ge 27, 3) := by decide +kernel
theorem dX1_neededWith_20 : decode cX1_neededWith 20 = .ok (.aload_n 0, 1) := by decide +kernel
theorem dX1_neededWith_21 : decode cX1_neededWith 21 = .ok (.getfield 37, 3) := by decide +kernel
theorem dX1_neededWith_24 : decode cX1_neededWith 24 = .ok (.aload_n 0, 1) := by decide +kernel
theorem dX1_neededWith_25 : decode cX1_neededWith 25 = .ok (.getfield 31, 3) := by decide +kernel
theorem dX1_neededWith_28 : decode cX1_neededWith 28 = .ok (.bipush 8, 2) := by decide +kernel
theorem dX1_neededWith_30 : decode cX1_neededWith 30 = .ok (.iload_n 2, 1) := by decide +kernel
theorem dX1_neededWith_31 : decode cX1_neededWith 31 = .ok (.imul, 1) := by decide +kernel
theorem dX1_neededWith_32 : decode cX1_neededWith 32 = .ok (.iload 4, 2) := by decide +kernel
theorem dX1_neededWith_34 : decode cX1_neededWith 34 = .ok (.iadd, 1) := by decide +kernel
theorem dX1_neededWith_35 : decode cX1_neededWith 35 = .ok (.iaload, 1) := by decide +kernel
theorem dX1_neededWith_36 : decode cX1_neededWith 36 = .ok (.iconst 0, 1) := by decide +kernel
theorem dX1_neededWith_37 : decode cX1_neededWith 37 = .ok (.iastore, 1) := by decide +kernel
theorem dX1_neededWith_38 : decode cX1_neededWith 38 = .ok (.iinc 4 1, 3) := by decide +kernel
theorem dX1_neededWith_41 : decode cX1_neededWith 41 = .ok (.goto (-30), 3) := by decide +kernel
theorem dX1_neededWith_44 : decode cX1_neededWith 44 = .ok (.iconst 0, 1) := by decide +kernel
theorem dX1_neededWith_45 : decode cX1_neededWith 45 = .ok (.istore 4, 2) := by decide +kernel
theorem dX1_neededWith_47 : decode cX1_neededWith 47 = .ok (.iload 4, 2) := by decide +kernel
theorem dX1_neededWith_49 : decode cX1_neededWith 49 = .ok (.aload_n 0, 1) := by decide +kernel
theorem dX1_neededWith_50 : decode cX1_neededWith 50 = .ok (.getfield 87, 3) := by decide +kernel
theorem dX1_neededWith_53 : decode cX1_neededWith 53 = .ok (.if_icmp .ge 62, 3) := by decide +kernel
theorem dX1_neededWith_56 : decode cX1_neededWith 56 = .ok (.aload_n 0, 1) := by decide +kernel
theorem dX1_neededWith_57 : decode cX1_neededWith 57 = .ok (.getfield 31, 3) := by decide +kernel
theorem dX1_neededWith_60 : decode cX1_neededWith 60 = .ok (.bipush 8, 2) := by decide +kernel
theorem dX1_neededWith_62 : decode cX1_neededWith 62 = .ok (.iload_n 2, 1) := by decide +kernel
theorem dX1_neededWith_63 : decode cX1_neededWith 63 = .ok (.imul, 1) := by decide +kernel
theorem dX1_neededWith_64 : decode cX1_neededWith 64 = .ok (.iload 4, 2) := by decide +kernel
theorem dX1_neededWith_66 : decode cX1_neededWith 66 = .ok (.iadd, 1) := by decide +kernel
theorem dX1_neededWith_67 : decode cX1_neededWith 67 = .ok (.iaload, 1) := by decide +kernel
theorem dX1_neededWith_68 : decode cX1_neededWith 68 = .ok (.istore 5, 2) := by decide +kernel
theorem dX1_neededWith_70 : decode cX1_neededWith 70 = .ok (.aload_n 0, 1) := by decide +kernel
theorem dX1_neededWith_71 : decode cX1_neededWith 71 = .ok (.getfield 37, 3) := by decide +kernel
theorem dX1_neededWith_74 : decode cX1_neededWith 74 = .ok (.iload 5, 2) := by decide +kernel
theorem dX1_neededWith_76 : decode cX1_neededWith 76 = .ok (.iload_n 1, 1) := by decide +kernel
theorem dX1_neededWith_77 : decode cX1_neededWith 77 = .ok (.iload 4, 2) := by decide +kernel
theorem dX1_neededWith_79 : decode cX1_neededWith 79 = .ok (.ishr, 1) := by decide +kernel
theorem dX1_neededWith_80 : decode cX1_neededWith 80 = .ok (.iconst 1, 1) := by decide +kernel
theorem dX1_neededWith_81 : decode cX1_neededWith 81 = .ok (.iand, 1) := by decide +kernel
theorem dX1_neededWith_82 : decode cX1_neededWith 82 = .ok (.iconst 1, 1) := by decide +kernel
theorem dX1_neededWith_83 : decode cX1_neededWith 83 = .ok (.if_icmp .ne 18, 3) := by decide +kernel
theorem dX1_neededWith_86 : decode cX1_neededWith 86 = .ok (.aload_n 0, 1) := by decide +kernel
theorem dX1_neededWith_87 : decode cX1_neededWith 87 = .ok (.getfield 37, 3) := by decide +kernel
theorem dX1_neededWith_90 : decode cX1_neededWith 90 = .ok (.iload 5, 2) := by decide +kernel
theorem dX1_neededWith_92 : decode cX1_neededWith 92 = .ok (.iaload, 1) := by decide +kernel
theorem dX1_neededWith_93 : decode cX1_neededWith 93 = .ok (.iconst 1, 1) := by decide +kernel
theorem dX1_neededWith_94 : decode cX1_neededWith 94 = .ok (.iload 4, 2) := by decide +kernel
theorem dX1_neededWith_96 : decode cX1_neededWith 96 = .ok (.ishl, 1) := by decide +kernel
theorem dX1_neededWith_97 : decode cX1_neededWith 97 = .ok (.ior, 1) := by decide +kernel
theorem dX1_neededWith_98 : decode cX1_neededWith 98 = .ok (.goto 10, 3) := by decide +kernel
theorem dX1_neededWith_101 : decode cX1_neededWith 101 = .ok (.aload_n 0, 1) := by decide +kernel
theorem dX1_neededWith_102 : decode cX1_neededWith 102 = .ok (.getfield 37, 3) := by decide +kernel
theorem dX1_neededWith_105 : decode cX1_neededWith 105 = .ok (.iload 5, 2) := by decide +kernel
theorem dX1_neededWith_107 : decode cX1_neededWith 107 = .ok (.iaload, 1) := by decide +kernel
theorem dX1_neededWith_108 : decode cX1_neededWith 108 = .ok (.iastore, 1) := by decide +kernel
theorem dX1_neededWith_109 : decode cX1_neededWith 109 = .ok (.iinc 4 1, 3) := by decide +kernel
theorem dX1_neededWith_112 : decode cX1_neededWith 112 = .ok (.goto (-65), 3) := by decide +kernel
theorem dX1_neededWith_115 : decode cX1_neededWith 115 = .ok (.iconst 0, 1) := by decide +kernel
theorem dX1_neededWith_116 : decode cX1_neededWith 116 = .ok (.istore 4, 2) := by decide +kernel
theorem dX1_neededWith_118 : decode cX1_neededWith 118 = .ok (.iconst 0, 1) := by decide +kernel
theorem dX1_neededWith_119 : decode cX1_neededWith 119 = .ok (.istore 5, 2) := by decide +kernel
theorem dX1_neededWith_121 : decode cX1_neededWith 121 = .ok (.iload 5, 2) := by decide +kernel
theorem dX1_neededWith_123 : decode cX1_neededWith 123 = .ok (.aload_n 0, 1) := by decide +kernel
theorem dX1_neededWith_124 : decode cX1_neededWith 124 = .ok (.getfield 87, 3) := by decide +kernel
theorem dX1_neededWith_127 : decode cX1_neededWith 127 = .ok (.if_icmp .ge 83, 3) := by decide +kernel
theorem dX1_neededWith_130 : decode cX1_neededWith 130 = .ok (.aload_n 0, 1) := by decide +kernel
theorem dX1_neededWith_131 : decode cX1_neededWith 131 = .ok (.getfield 31, 3) := by decide +kernel
theorem dX1_neededWith_134 : decode cX1_neededWith 134 = .ok (.bipush 8, 2) := by decide +kernel
theorem dX1_neededWith_136 : decode cX1_neededWith 136 = .ok (.iload_n 2, 1) := by decide +kernel
theorem dX1_neededWith_137 : decode cX1_neededWith 137 = .ok (.imul, 1) := by decide +kernel
theorem dX1_neededWith_138 : decode cX1_neededWith 138 = .ok (.iload 5, 2) := by decide +kernel
theorem dX1_neededWith_140 : decode cX1_neededWith 140 = .ok (.iadd, 1) := by decide +kernel
theorem dX1_neededWith_141 : decode cX1_neededWith 141 = .ok (.iaload, 1) := by decide +kernel
theorem dX1_neededWith_142 : decode cX1_neededWith 142 = .ok (.istore 6, 2) := by decide +kernel
theorem dX1_neededWith_144 : decode cX1_neededWith 144 = .ok (.aload_n 0, 1) := by decide +kernel
theorem dX1_neededWith_145 : decode cX1_neededWith 145 = .ok (.getfield 37, 3) := by decide +kernel
theorem dX1_neededWith_148 : decode cX1_neededWith 148 = .ok (.iload 6, 2) := by decide +kernel
theorem dX1_neededWith_150 : decode cX1_neededWith 150 = .ok (.iaload, 1) := by decide +kernel
theorem dX1_neededWith_151 : decode cX1_neededWith 151 = .ok (.istore 7, 2) := by decide +kernel
theorem dX1_neededWith_153 : decode cX1_neededWith 153 = .ok (.iload 6, 2) := by decide +kernel
theorem dX1_neededWith_155 : decode cX1_neededWith 155 = .ok (.iload_n 3, 1) := by decide +kernel
end
section
set_option maxRecDepth 100000
theorem dX1_neededWith_156 : decode cX1_neededWith 156 = .ok (.if_icmp .eq 8, 3) := by decide +kernel
theorem dX1_neededWith_159 : decode cX1_neededWith 159 = .ok (.iload 7, 2) := by decide +kernel
theorem dX1_neededWith_161 : decode cX1_neededWith 161 = .ok (.ifCond .ne 7, 3) := by decide +kernel
theorem dX1_neededWith_164 : decode cX1_neededWith 164 = .ok (.iconst 0, 1) := by decide +kernel
theorem dX1_neededWith_165 : decode cX1_neededWith 165 = .ok (.goto 21, 3) := by decide +kernel
theorem dX1_neededWith_168 : decode cX1_neededWith 168 = .ok (.iload 7, 2) := by decide +kernel
theorem dX1_neededWith_170 : decode cX1_neededWith 170 = .ok (.iload_n 1, 1) := by decide +kernel
theorem dX1_neededWith_171 : decode cX1_neededWith 171 = .ok (.if_icmp .ne 8, 3) := by decide +kernel
theorem dX1_neededWith_174 : decode cX1_neededWith 174 = .ok (.bipush 100, 2) := by decide +kernel
theorem dX1_neededWith_176 : decode cX1_neededWith 176 = .ok (.goto 10, 3) := by decide +kernel
theorem dX1_neededWith_179 : decode cX1_neededWith 179 = .ok (.aload_n 0, 1) := by decide +kernel
theorem dX1_neededWith_180 : decode cX1_neededWith 180 = .ok (.getfield 34, 3) := by decide +kernel
theorem dX1_neededWith_183 : decode cX1_neededWith 183 = .ok (.iload 7, 2) := by decide +kernel
theorem dX1_neededWith_185 : decode cX1_neededWith 185 = .ok (.iaload, 1) := by decide +kernel
theorem dX1_neededWith_186 : decode cX1_neededWith 186 = .ok (.istore 8, 2) := by decide +kernel
theorem dX1_neededWith_188 : decode cX1_neededWith 188 = .ok (.iload 8, 2) := by decide +kernel
theorem dX1_neededWith_190 : decode cX1_neededWith 190 = .ok (.iload 4, 2) := by decide +kernel
theorem dX1_neededWith_192 : decode cX1_neededWith 192 = .ok (.if_icmp .le 8, 3) := by decide +kernel
theorem dX1_neededWith_195 : decode cX1_neededWith 195 = .ok (.iload 8, 2) := by decide +kernel
theorem dX1_neededWith_197 : decode cX1_neededWith 197 = .ok (.goto 5, 3) := by decide +kernel
theorem dX1_neededWith_200 : decode cX1_neededWith 200 = .ok (.iload 4, 2) := by decide +kernel
theorem dX1_neededWith_202 : decode cX1_neededWith 202 = .ok (.istore 4, 2) := by decide +kernel
theorem dX1_neededWith_204 : decode cX1_neededWith 204 = .ok (.iinc 5 1, 3) := by decide +kernel
theorem dX1_neededWith_207 : decode cX1_neededWith 207 = .ok (.goto (-86), 3) := by decide +kernel
theorem dX1_neededWith_210 : decode cX1_neededWith 210 = .ok (.iload 4, 2) := by decide +kernel
theorem dX1_neededWith_212 : decode cX1_neededWith 212 = .ok (.iconst 1, 1) := by decide +kernel
theorem dX1_neededWith_213 : decode cX1_neededWith 213 = .ok (.iadd, 1) := by decide +kernel
theorem dX1_neededWith_214 : decode cX1_neededWith 214 = .ok (.ireturn, 1) := by decide +kernel
theorem dX1_needKept_0 : decode cX1_needKept 0 = .ok (.aload_n 0, 1) := by decide +kernel
theorem dX1_needKept_1 : decode cX1_needKept 1 = .ok (.iconst 1, 1) := by decide +kernel
theorem dX1_needKept_2 : decode cX1_needKept 2 = .ok (.invokevirtual 104, 3) := by decide +kernel
theorem dX1_needKept_5 : decode cX1_needKept 5 = .ok (.ireturn, 1) := by decide +kernel
theorem dX1_first_0 : decode cX1_first 0 = .ok (.aload_n 0, 1) := by decide +kernel
theorem dX1_first_1 : decode cX1_first 1 = .ok (.iconst 0, 1) := by decide +kernel
theorem dX1_first_2 : decode cX1_first 2 = .ok (.invokevirtual 104, 3) := by decide +kernel
theorem dX1_first_5 : decode cX1_first 5 = .ok (.istore_n 1, 1) := by decide +kernel
theorem dX1_first_6 : decode cX1_first 6 = .ok (.iload_n 1, 1) := by decide +kernel
theorem dX1_first_7 : decode cX1_first 7 = .ok (.ifCond .gt 14, 3) := by decide +kernel
theorem dX1_first_10 : decode cX1_first 10 = .ok (.iload_n 1, 1) := by decide +kernel
theorem dX1_first_11 : decode cX1_first 11 = .ok (.ifCond .ne 8, 3) := by decide +kernel
theorem dX1_first_14 : decode cX1_first 14 = .ok (.bipush (-3), 2) := by decide +kernel
theorem dX1_first_16 : decode cX1_first 16 = .ok (.goto 4, 3) := by decide +kernel
theorem dX1_first_19 : decode cX1_first 19 = .ok (.iload_n 1, 1) := by decide +kernel
theorem dX1_first_20 : decode cX1_first 20 = .ok (.ireturn, 1) := by decide +kernel
theorem dX1_first_21 : decode cX1_first 21 = .ok (.iconst 0, 1) := by decide +kernel
theorem dX1_first_22 : decode cX1_first 22 = .ok (.istore_n 2, 1) := by decide +kernel
theorem dX1_first_23 : decode cX1_first 23 = .ok (.iload_n 2, 1) := by decide +kernel
theorem dX1_first_24 : decode cX1_first 24 = .ok (.aload_n 0, 1) := by decide +kernel
theorem dX1_first_25 : decode cX1_first 25 = .ok (.getfield 47, 3) := by decide +kernel
theorem dX1_first_28 : decode cX1_first 28 = .ok (.if_icmp .ge 30, 3) := by decide +kernel
theorem dX1_first_31 : decode cX1_first 31 = .ok (.aload_n 0, 1) := by decide +kernel
theorem dX1_first_32 : decode cX1_first 32 = .ok (.iconst 1, 1) := by decide +kernel
theorem dX1_first_33 : decode cX1_first 33 = .ok (.aload_n 0, 1) := by decide +kernel
theorem dX1_first_34 : decode cX1_first 34 = .ok (.getfield 87, 3) := by decide +kernel
theorem dX1_first_37 : decode cX1_first 37 = .ok (.ishl, 1) := by decide +kernel
theorem dX1_first_38 : decode cX1_first 38 = .ok (.iconst 1, 1) := by decide +kernel
theorem dX1_first_39 : decode cX1_first 39 = .ok (.isub, 1) := by decide +kernel
theorem dX1_first_40 : decode cX1_first 40 = .ok (.iload_n 2, 1) := by decide +kernel
theorem dX1_first_41 : decode cX1_first 41 = .ok (.invokevirtual 94, 3) := by decide +kernel
theorem dX1_first_44 : decode cX1_first 44 = .ok (.istore_n 3, 1) := by decide +kernel
theorem dX1_first_45 : decode cX1_first 45 = .ok (.iload_n 3, 1) := by decide +kernel
theorem dX1_first_46 : decode cX1_first 46 = .ok (.iload_n 1, 1) := by decide +kernel
theorem dX1_first_47 : decode cX1_first 47 = .ok (.if_icmp .ne 5, 3) := by decide +kernel
theorem dX1_first_50 : decode cX1_first 50 = .ok (.iload_n 2, 1) := by decide +kernel
theorem dX1_first_51 : decode cX1_first 51 = .ok (.ireturn, 1) := by decide +kernel
theorem dX1_first_52 : decode cX1_first 52 = .ok (.iinc 2 1, 3) := by decide +kernel
theorem dX1_first_55 : decode cX1_first 55 = .ok (.goto (-32), 3) := by decide +kernel
theorem dX1_first_58 : decode cX1_first 58 = .ok (.bipush (-3), 2) := by decide +kernel
theorem dX1_first_60 : decode cX1_first 60 = .ok (.ireturn, 1) := by decide +kernel
theorem dX1_useful_0 : decode cX1_useful 0 = .ok (.iconst 0, 1) := by decide +kernel
theorem dX1_useful_1 : decode cX1_useful 1 = .ok (.istore_n 1, 1) := by decide +kernel
theorem dX1_useful_2 : decode cX1_useful 2 = .ok (.iconst 0, 1) := by decide +kernel
theorem dX1_useful_3 : decode cX1_useful 3 = .ok (.istore_n 2, 1) := by decide +kernel
theorem dX1_useful_4 : decode cX1_useful 4 = .ok (.iload_n 2, 1) := by decide +kernel
theorem dX1_useful_5 : decode cX1_useful 5 = .ok (.aload_n 0, 1) := by decide +kernel
theorem dX1_useful_6 : decode cX1_useful 6 = .ok (.getfield 58, 3) := by decide +kernel
theorem dX1_useful_9 : decode cX1_useful 9 = .ok (.if_icmp .ge 87, 3) := by decide +kernel
theorem dX1_useful_12 : decode cX1_useful 12 = .ok (.iconst 0, 1) := by decide +kernel
theorem dX1_useful_13 : decode cX1_useful 13 = .ok (.istore_n 3, 1) := by decide +kernel
theorem dX1_useful_14 : decode cX1_useful 14 = .ok (.iconst 0, 1) := by decide +kernel
theorem dX1_useful_15 : decode cX1_useful 15 = .ok (.istore 4, 2) := by decide +kernel
theorem dX1_useful_17 : decode cX1_useful 17 = .ok (.iload 4, 2) := by decide +kernel
theorem dX1_useful_19 : decode cX1_useful 19 = .ok (.aload_n 0, 1) := by decide +kernel
theorem dX1_useful_20 : decode cX1_useful 20 = .ok (.getfield 47, 3) := by decide +kernel
theorem dX1_useful_23 : decode cX1_useful 23 = .ok (.if_icmp .ge 55, 3) := by decide +kernel
theorem dX1_useful_26 : decode cX1_useful 26 = .ok (.aload_n 0, 1) := by decide +kernel
theorem dX1_useful_27 : decode cX1_useful 27 = .ok (.aload_n 0, 1) := by decide +kernel
theorem dX1_useful_28 : decode cX1_useful 28 = .ok (.getfield 16, 3) := by decide +kernel
theorem dX1_useful_31 : decode cX1_useful 31 = .ok (.iload_n 2, 1) := by decide +kernel
theorem dX1_useful_32 : decode cX1_useful 32 = .ok (.iaload, 1) := by decide +kernel
theorem dX1_useful_33 : decode cX1_useful 33 = .ok (.iload 4, 2) := by decide +kernel
theorem dX1_useful_35 : decode cX1_useful 35 = .ok (.invokevirtual 54, 3) := by decide +kernel
theorem dX1_useful_38 : decode cX1_useful 38 = .ok (.istore 5, 2) := by decide +kernel
theorem dX1_useful_40 : decode cX1_useful 40 = .ok (.iload_n 3, 1) := by decide +kernel
theorem dX1_useful_41 : decode cX1_useful 41 = .ok (.ifCond .ne 25, 3) := by decide +kernel
theorem dX1_useful_44 : decode cX1_useful 44 = .ok (.aload_n 0, 1) := by decide +kernel
theorem dX1_useful_45 : decode cX1_useful 45 = .ok (.getfield 22, 3) := by decide +kernel
theorem dX1_useful_48 : decode cX1_useful 48 = .ok (.iload 4, 2) := by decide +kernel
theorem dX1_useful_50 : decode cX1_useful 50 = .ok (.iaload, 1) := by decide +kernel
theorem dX1_useful_51 : decode cX1_useful 51 = .ok (.iconst 1, 1) := by decide +kernel
theorem dX1_useful_52 : decode cX1_useful 52 = .ok (.if_icmp .ne 18, 3) := by decide +kernel
theorem dX1_useful_55 : decode cX1_useful 55 = .ok (.iload 5, 2) := by decide +kernel
theorem dX1_useful_57 : decode cX1_useful 57 = .ok (.aload_n 0, 1) := by decide +kernel
theorem dX1_useful_58 : decode cX1_useful 58 = .ok (.getfield 19, 3) := by decide +kernel
theorem dX1_useful_61 : decode cX1_useful 61 = .ok (.iload_n 2, 1) := by decide +kernel
theorem dX1_useful_62 : decode cX1_useful 62 = .ok (.iaload, 1) := by decide +kernel
theorem dX1_useful_63 : decode cX1_useful 63 = .ok (.if_icmp .eq 7, 3) := by decide +kernel
theorem dX1_useful_66 : decode cX1_useful 66 = .ok (.iconst 1, 1) := by decide +kernel
theorem dX1_useful_67 : decode cX1_useful 67 = .ok (.goto 4, 3) := by decide +kernel
theorem dX1_useful_70 : decode cX1_useful 70 = .ok (.iconst 0, 1) := by decide +kernel
theorem dX1_useful_71 : decode cX1_useful 71 = .ok (.istore_n 3, 1) := by decide +kernel
theorem dX1_useful_72 : decode cX1_useful 72 = .ok (.iinc 4 1, 3) := by decide +kernel
theorem dX1_useful_75 : decode cX1_useful 75 = .ok (.goto (-58), 3) := by decide +kernel
theorem dX1_useful_78 : decode cX1_useful 78 = .ok (.iload_n 3, 1) := by decide +kernel
theorem dX1_useful_79 : decode cX1_useful 79 = .ok (.ifCond .eq 9, 3) := by decide +kernel
theorem dX1_useful_82 : decode cX1_useful 82 = .ok (.iload_n 1, 1) := by decide +kernel
theorem dX1_useful_83 : decode cX1_useful 83 = .ok (.iconst 1, 1) := by decide +kernel
theorem dX1_useful_84 : decode cX1_useful 84 = .ok (.iadd, 1) := by decide +kernel
theorem dX1_useful_85 : decode cX1_useful 85 = .ok (.goto 4, 3) := by decide +kernel
theorem dX1_useful_88 : decode cX1_useful 88 = .ok (.iload_n 1, 1) := by decide +kernel
theorem dX1_useful_89 : decode cX1_useful 89 = .ok (.istore_n 1, 1) := by decide +kernel
theorem dX1_useful_90 : decode cX1_useful 90 = .ok (.iinc 2 1, 3) := by decide +kernel
theorem dX1_useful_93 : decode cX1_useful 93 = .ok (.goto (-89), 3) := by decide +kernel
theorem dX1_useful_96 : decode cX1_useful 96 = .ok (.iload_n 1, 1) := by decide +kernel
theorem dX1_useful_97 : decode cX1_useful 97 = .ok (.ireturn, 1) := by decide +kernel
end
section
set_option maxRecDepth 100000
theorem dX2_init_0 : decode cX2_init 0 = .ok (.aload_n 0, 1) := by decide +kernel
theorem dX2_init_1 : decode cX2_init 1 = .ok (.invokespecial 1, 3) := by decide +kernel
theorem dX2_init_4 : decode cX2_init 4 = .ok (.aload_n 0, 1) := by decide +kernel
theorem dX2_init_5 : decode cX2_init 5 = .ok (.bipush 8, 2) := by decide +kernel
theorem dX2_init_7 : decode cX2_init 7 = .ok (.newarray .int, 2) := by decide +kernel
theorem dX2_init_9 : decode cX2_init 9 = .ok (.putfield 7, 3) := by decide +kernel
theorem dX2_init_12 : decode cX2_init 12 = .ok (.aload_n 0, 1) := by decide +kernel
theorem dX2_init_13 : decode cX2_init 13 = .ok (.bipush 8, 2) := by decide +kernel
theorem dX2_init_15 : decode cX2_init 15 = .ok (.newarray .int, 2) := by decide +kernel
theorem dX2_init_17 : decode cX2_init 17 = .ok (.putfield 13, 3) := by decide +kernel
theorem dX2_init_20 : decode cX2_init 20 = .ok (.aload_n 0, 1) := by decide +kernel
theorem dX2_init_21 : decode cX2_init 21 = .ok (.bipush 8, 2) := by decide +kernel
theorem dX2_init_23 : decode cX2_init 23 = .ok (.newarray .int, 2) := by decide +kernel
theorem dX2_init_25 : decode cX2_init 25 = .ok (.putfield 16, 3) := by decide +kernel
theorem dX2_init_28 : decode cX2_init 28 = .ok (.aload_n 0, 1) := by decide +kernel
theorem dX2_init_29 : decode cX2_init 29 = .ok (.sipush 256, 3) := by decide +kernel
theorem dX2_init_32 : decode cX2_init 32 = .ok (.newarray .int, 2) := by decide +kernel
theorem dX2_init_34 : decode cX2_init 34 = .ok (.putfield 19, 3) := by decide +kernel
theorem dX2_init_37 : decode cX2_init 37 = .ok (.aload_n 0, 1) := by decide +kernel
theorem dX2_init_38 : decode cX2_init 38 = .ok (.bipush 60, 2) := by decide +kernel
theorem dX2_init_40 : decode cX2_init 40 = .ok (.newarray .int, 2) := by decide +kernel
theorem dX2_init_42 : decode cX2_init 42 = .ok (.putfield 22, 3) := by decide +kernel
theorem dX2_init_45 : decode cX2_init 45 = .ok (.aload_n 0, 1) := by decide +kernel
theorem dX2_init_46 : decode cX2_init 46 = .ok (.sipush 6561, 3) := by decide +kernel
theorem dX2_init_49 : decode cX2_init 49 = .ok (.newarray .int, 2) := by decide +kernel
theorem dX2_init_51 : decode cX2_init 51 = .ok (.putfield 25, 3) := by decide +kernel
theorem dX2_init_54 : decode cX2_init 54 = .ok (.aload_n 0, 1) := by decide +kernel
theorem dX2_init_55 : decode cX2_init 55 = .ok (.iload_n 1, 1) := by decide +kernel
theorem dX2_init_56 : decode cX2_init 56 = .ok (.iconst 1, 1) := by decide +kernel
theorem dX2_init_57 : decode cX2_init 57 = .ok (.if_icmp .ge 7, 3) := by decide +kernel
theorem dX2_init_60 : decode cX2_init 60 = .ok (.iconst 1, 1) := by decide +kernel
theorem dX2_init_61 : decode cX2_init 61 = .ok (.goto 13, 3) := by decide +kernel
theorem dX2_init_64 : decode cX2_init 64 = .ok (.iload_n 1, 1) := by decide +kernel
theorem dX2_init_65 : decode cX2_init 65 = .ok (.iconst 4, 1) := by decide +kernel
theorem dX2_init_66 : decode cX2_init 66 = .ok (.if_icmp .le 7, 3) := by decide +kernel
theorem dX2_init_69 : decode cX2_init 69 = .ok (.iconst 4, 1) := by decide +kernel
theorem dX2_init_70 : decode cX2_init 70 = .ok (.goto 4, 3) := by decide +kernel
theorem dX2_init_73 : decode cX2_init 73 = .ok (.iload_n 1, 1) := by decide +kernel
theorem dX2_init_74 : decode cX2_init 74 = .ok (.putfield 28, 3) := by decide +kernel
theorem dX2_init_77 : decode cX2_init 77 = .ok (.aload_n 0, 1) := by decide +kernel
theorem dX2_init_78 : decode cX2_init 78 = .ok (.iload_n 2, 1) := by decide +kernel
theorem dX2_init_79 : decode cX2_init 79 = .ok (.iconst 1, 1) := by decide +kernel
theorem dX2_init_80 : decode cX2_init 80 = .ok (.if_icmp .ge 7, 3) := by decide +kernel
theorem dX2_init_83 : decode cX2_init 83 = .ok (.iconst 1, 1) := by decide +kernel
theorem dX2_init_84 : decode cX2_init 84 = .ok (.goto 13, 3) := by decide +kernel
theorem dX2_init_87 : decode cX2_init 87 = .ok (.iload_n 2, 1) := by decide +kernel
theorem dX2_init_88 : decode cX2_init 88 = .ok (.iconst 3, 1) := by decide +kernel
theorem dX2_init_89 : decode cX2_init 89 = .ok (.if_icmp .le 7, 3) := by decide +kernel
theorem dX2_init_92 : decode cX2_init 92 = .ok (.iconst 3, 1) := by decide +kernel
theorem dX2_init_93 : decode cX2_init 93 = .ok (.goto 4, 3) := by decide +kernel
theorem dX2_init_96 : decode cX2_init 96 = .ok (.iload_n 2, 1) := by decide +kernel
theorem dX2_init_97 : decode cX2_init 97 = .ok (.putfield 32, 3) := by decide +kernel
theorem dX2_init_100 : decode cX2_init 100 = .ok (.iconst 1, 1) := by decide +kernel
theorem dX2_init_101 : decode cX2_init 101 = .ok (.istore_n 3, 1) := by decide +kernel
theorem dX2_init_102 : decode cX2_init 102 = .ok (.iconst 0, 1) := by decide +kernel
theorem dX2_init_103 : decode cX2_init 103 = .ok (.istore 4, 2) := by decide +kernel
theorem dX2_init_105 : decode cX2_init 105 = .ok (.iload 4, 2) := by decide +kernel
theorem dX2_init_107 : decode cX2_init 107 = .ok (.aload_n 0, 1) := by decide +kernel
theorem dX2_init_108 : decode cX2_init 108 = .ok (.getfield 28, 3) := by decide +kernel
theorem dX2_init_111 : decode cX2_init 111 = .ok (.if_icmp .ge 16, 3) := by decide +kernel
theorem dX2_init_114 : decode cX2_init 114 = .ok (.iload_n 3, 1) := by decide +kernel
theorem dX2_init_115 : decode cX2_init 115 = .ok (.aload_n 0, 1) := by decide +kernel
theorem dX2_init_116 : decode cX2_init 116 = .ok (.getfield 32, 3) := by decide +kernel
theorem dX2_init_119 : decode cX2_init 119 = .ok (.imul, 1) := by decide +kernel
theorem dX2_init_120 : decode cX2_init 120 = .ok (.istore_n 3, 1) := by decide +kernel
theorem dX2_init_121 : decode cX2_init 121 = .ok (.iinc 4 1, 3) := by decide +kernel
theorem dX2_init_124 : decode cX2_init 124 = .ok (.goto (-19), 3) := by decide +kernel
theorem dX2_init_127 : decode cX2_init 127 = .ok (.aload_n 0, 1) := by decide +kernel
theorem dX2_init_128 : decode cX2_init 128 = .ok (.iload_n 3, 1) := by decide +kernel
theorem dX2_init_129 : decode cX2_init 129 = .ok (.putfield 35, 3) := by decide +kernel
theorem dX2_init_132 : decode cX2_init 132 = .ok (.iconst 0, 1) := by decide +kernel
theorem dX2_init_133 : decode cX2_init 133 = .ok (.istore 4, 2) := by decide +kernel
theorem dX2_init_135 : decode cX2_init 135 = .ok (.iload 4, 2) := by decide +kernel
theorem dX2_init_137 : decode cX2_init 137 = .ok (.aload_n 0, 1) := by decide +kernel
theorem dX2_init_138 : decode cX2_init 138 = .ok (.getfield 35, 3) := by decide +kernel
theorem dX2_init_141 : decode cX2_init 141 = .ok (.aload_n 0, 1) := by decide +kernel
theorem dX2_init_142 : decode cX2_init 142 = .ok (.getfield 35, 3) := by decide +kernel
theorem dX2_init_145 : decode cX2_init 145 = .ok (.imul, 1) := by decide +kernel
theorem dX2_init_146 : decode cX2_init 146 = .ok (.if_icmp .ge 50, 3) := by decide +kernel
theorem dX2_init_149 : decode cX2_init 149 = .ok (.aload_n 0, 1) := by decide +kernel
theorem dX2_init_150 : decode cX2_init 150 = .ok (.getfield 25, 3) := by decide +kernel
theorem dX2_init_153 : decode cX2_init 153 = .ok (.iload 4, 2) := by decide +kernel
theorem dX2_init_155 : decode cX2_init 155 = .ok (.aload_n 0, 1) := by decide +kernel
theorem dX2_init_156 : decode cX2_init 156 = .ok (.getfield 35, 3) := by decide +kernel
theorem dX2_init_159 : decode cX2_init 159 = .ok (.idiv, 1) := by decide +kernel
theorem dX2_init_160 : decode cX2_init 160 = .ok (.bipush 81, 2) := by decide +kernel
theorem dX2_init_162 : decode cX2_init 162 = .ok (.imul, 1) := by decide +kernel
theorem dX2_init_163 : decode cX2_init 163 = .ok (.iload 4, 2) := by decide +kernel
theorem dX2_init_165 : decode cX2_init 165 = .ok (.aload_n 0, 1) := by decide +kernel
theorem dX2_init_166 : decode cX2_init 166 = .ok (.getfield 35, 3) := by decide +kernel
theorem dX2_init_169 : decode cX2_init 169 = .ok (.irem, 1) := by decide +kernel
theorem dX2_init_170 : decode cX2_init 170 = .ok (.iadd, 1) := by decide +kernel
theorem dX2_init_171 : decode cX2_init 171 = .ok (.aload_n 0, 1) := by decide +kernel
theorem dX2_init_172 : decode cX2_init 172 = .ok (.iload 4, 2) := by decide +kernel
theorem dX2_init_174 : decode cX2_init 174 = .ok (.aload_n 0, 1) := by decide +kernel
theorem dX2_init_175 : decode cX2_init 175 = .ok (.getfield 35, 3) := by decide +kernel
theorem dX2_init_178 : decode cX2_init 178 = .ok (.idiv, 1) := by decide +kernel
theorem dX2_init_179 : decode cX2_init 179 = .ok (.iload 4, 2) := by decide +kernel
theorem dX2_init_181 : decode cX2_init 181 = .ok (.aload_n 0, 1) := by decide +kernel
theorem dX2_init_182 : decode cX2_init 182 = .ok (.getfield 35, 3) := by decide +kernel
theorem dX2_init_185 : decode cX2_init 185 = .ok (.irem, 1) := by decide +kernel
theorem dX2_init_186 : decode cX2_init 186 = .ok (.invokevirtual 38, 3) := by decide +kernel
theorem dX2_init_189 : decode cX2_init 189 = .ok (.iastore, 1) := by decide +kernel
theorem dX2_init_190 : decode cX2_init 190 = .ok (.iinc 4 1, 3) := by decide +kernel
theorem dX2_init_193 : decode cX2_init 193 = .ok (.goto (-58), 3) := by decide +kernel
theorem dX2_init_196 : decode cX2_init 196 = .ok (.return_, 1) := by decide +kernel
theorem dX2_compare_0 : decode cX2_compare 0 = .ok (.iconst 0, 1) := by decide +kernel
theorem dX2_compare_1 : decode cX2_compare 1 = .ok (.istore_n 3, 1) := by decide +kernel
theorem dX2_compare_2 : decode cX2_compare 2 = .ok (.iconst 0, 1) := by decide +kernel
theorem dX2_compare_3 : decode cX2_compare 3 = .ok (.istore 4, 2) := by decide +kernel
theorem dX2_compare_5 : decode cX2_compare 5 = .ok (.iload 4, 2) := by decide +kernel
theorem dX2_compare_7 : decode cX2_compare 7 = .ok (.aload_n 0, 1) := by decide +kernel
theorem dX2_compare_8 : decode cX2_compare 8 = .ok (.getfield 28, 3) := by decide +kernel
theorem dX2_compare_11 : decode cX2_compare 11 = .ok (.if_icmp .ge 34, 3) := by decide +kernel
theorem dX2_compare_14 : decode cX2_compare 14 = .ok (.aload_n 0, 1) := by decide +kernel
theorem dX2_compare_15 : decode cX2_compare 15 = .ok (.iload_n 1, 1) := by decide +kernel
theorem dX2_compare_16 : decode cX2_compare 16 = .ok (.iload 4, 2) := by decide +kernel
theorem dX2_compare_18 : decode cX2_compare 18 = .ok (.invokevirtual 42, 3) := by decide +kernel
theorem dX2_compare_21 : decode cX2_compare 21 = .ok (.aload_n 0, 1) := by decide +kernel
theorem dX2_compare_22 : decode cX2_compare 22 = .ok (.iload_n 2, 1) := by decide +kernel
theorem dX2_compare_23 : decode cX2_compare 23 = .ok (.iload 4, 2) := by decide +kernel
theorem dX2_compare_25 : decode cX2_compare 25 = .ok (.invokevirtual 42, 3) := by decide +kernel
theorem dX2_compare_28 : decode cX2_compare 28 = .ok (.if_icmp .ne 9, 3) := by decide +kernel
theorem dX2_compare_31 : decode cX2_compare 31 = .ok (.iload_n 3, 1) := by decide +kernel
theorem dX2_compare_32 : decode cX2_compare 32 = .ok (.iconst 1, 1) := by decide +kernel
theorem dX2_compare_33 : decode cX2_compare 33 = .ok (.iadd, 1) := by decide +kernel
theorem dX2_compare_34 : decode cX2_compare 34 = .ok (.goto 4, 3) := by decide +kernel
theorem dX2_compare_37 : decode cX2_compare 37 = .ok (.iload_n 3, 1) := by decide +kernel
theorem dX2_compare_38 : decode cX2_compare 38 = .ok (.istore_n 3, 1) := by decide +kernel
theorem dX2_compare_39 : decode cX2_compare 39 = .ok (.iinc 4 1, 3) := by decide +kernel
theorem dX2_compare_42 : decode cX2_compare 42 = .ok (.goto (-37), 3) := by decide +kernel
theorem dX2_compare_45 : decode cX2_compare 45 = .ok (.iconst 0, 1) := by decide +kernel
theorem dX2_compare_46 : decode cX2_compare 46 = .ok (.istore 4, 2) := by decide +kernel
theorem dX2_compare_48 : decode cX2_compare 48 = .ok (.iconst 0, 1) := by decide +kernel
theorem dX2_compare_49 : decode cX2_compare 49 = .ok (.istore 5, 2) := by decide +kernel
theorem dX2_compare_51 : decode cX2_compare 51 = .ok (.iload 5, 2) := by decide +kernel
theorem dX2_compare_53 : decode cX2_compare 53 = .ok (.aload_n 0, 1) := by decide +kernel
theorem dX2_compare_54 : decode cX2_compare 54 = .ok (.getfield 32, 3) := by decide +kernel
theorem dX2_compare_57 : decode cX2_compare 57 = .ok (.if_icmp .ge 46, 3) := by decide +kernel
theorem dX2_compare_60 : decode cX2_compare 60 = .ok (.aload_n 0, 1) := by decide +kernel
theorem dX2_compare_61 : decode cX2_compare 61 = .ok (.iload_n 1, 1) := by decide +kernel
theorem dX2_compare_62 : decode cX2_compare 62 = .ok (.iload 5, 2) := by decide +kernel
theorem dX2_compare_64 : decode cX2_compare 64 = .ok (.invokevirtual 45, 3) := by decide +kernel
theorem dX2_compare_67 : decode cX2_compare 67 = .ok (.istore 6, 2) := by decide +kernel
theorem dX2_compare_69 : decode cX2_compare 69 = .ok (.aload_n 0, 1) := by decide +kernel
theorem dX2_compare_70 : decode cX2_compare 70 = .ok (.iload_n 2, 1) := by decide +kernel
theorem dX2_compare_71 : decode cX2_compare 71 = .ok (.iload 5, 2) := by decide +kernel
theorem dX2_compare_73 : decode cX2_compare 73 = .ok (.invokevirtual 45, 3) := by decide +kernel
theorem dX2_compare_76 : decode cX2_compare 76 = .ok (.istore 7, 2) := by decide +kernel
theorem dX2_compare_78 : decode cX2_compare 78 = .ok (.iload 4, 2) := by decide +kernel
theorem dX2_compare_80 : decode cX2_compare 80 = .ok (.iload 6, 2) := by decide +kernel
theorem dX2_compare_82 : decode cX2_compare 82 = .ok (.iload 7, 2) := by decide +kernel
theorem dX2_compare_84 : decode cX2_compare 84 = .ok (.if_icmp .ge 8, 3) := by decide +kernel
theorem dX2_compare_87 : decode cX2_compare 87 = .ok (.iload 6, 2) := by decide +kernel
theorem dX2_compare_89 : decode cX2_compare 89 = .ok (.goto 5, 3) := by decide +kernel
theorem dX2_compare_92 : decode cX2_compare 92 = .ok (.iload 7, 2) := by decide +kernel
theorem dX2_compare_94 : decode cX2_compare 94 = .ok (.iadd, 1) := by decide +kernel
theorem dX2_compare_95 : decode cX2_compare 95 = .ok (.istore 4, 2) := by decide +kernel
theorem dX2_compare_97 : decode cX2_compare 97 = .ok (.iinc 5 1, 3) := by decide +kernel
theorem dX2_compare_100 : decode cX2_compare 100 = .ok (.goto (-49), 3) := by decide +kernel
theorem dX2_compare_103 : decode cX2_compare 103 = .ok (.bipush 10, 2) := by decide +kernel
theorem dX2_compare_105 : decode cX2_compare 105 = .ok (.iload_n 3, 1) := by decide +kernel
theorem dX2_compare_106 : decode cX2_compare 106 = .ok (.imul, 1) := by decide +kernel
theorem dX2_compare_107 : decode cX2_compare 107 = .ok (.iload 4, 2) := by decide +kernel
theorem dX2_compare_109 : decode cX2_compare 109 = .ok (.iadd, 1) := by decide +kernel
theorem dX2_compare_110 : decode cX2_compare 110 = .ok (.iload_n 3, 1) := by decide +kernel
theorem dX2_compare_111 : decode cX2_compare 111 = .ok (.isub, 1) := by decide +kernel
theorem dX2_compare_112 : decode cX2_compare 112 = .ok (.ireturn, 1) := by decide +kernel
theorem dX2_digitOf_0 : decode cX2_digitOf 0 = .ok (.iload_n 1, 1) := by decide +kernel
theorem dX2_digitOf_1 : decode cX2_digitOf 1 = .ok (.istore_n 3, 1) := by decide +kernel
theorem dX2_digitOf_2 : decode cX2_digitOf 2 = .ok (.iconst 0, 1) := by decide +kernel
theorem dX2_digitOf_3 : decode cX2_digitOf 3 = .ok (.istore 4, 2) := by decide +kernel
theorem dX2_digitOf_5 : decode cX2_digitOf 5 = .ok (.iload 4, 2) := by decide +kernel
theorem dX2_digitOf_7 : decode cX2_digitOf 7 = .ok (.iload_n 2, 1) := by decide +kernel
theorem dX2_digitOf_8 : decode cX2_digitOf 8 = .ok (.if_icmp .ge 16, 3) := by decide +kernel
theorem dX2_digitOf_11 : decode cX2_digitOf 11 = .ok (.iload_n 3, 1) := by decide +kernel
theorem dX2_digitOf_12 : decode cX2_digitOf 12 = .ok (.aload_n 0, 1) := by decide +kernel
theorem dX2_digitOf_13 : decode cX2_digitOf 13 = .ok (.getfield 32, 3) := by decide +kernel
theorem dX2_digitOf_16 : decode cX2_digitOf 16 = .ok (.idiv, 1) := by decide +kernel
theorem dX2_digitOf_17 : decode cX2_digitOf 17 = .ok (.istore_n 3, 1) := by decide +kernel
theorem dX2_digitOf_18 : decode cX2_digitOf 18 = .ok (.iinc 4 1, 3) := by decide +kernel
theorem dX2_digitOf_21 : decode cX2_digitOf 21 = .ok (.goto (-16), 3) := by decide +kernel
theorem dX2_digitOf_24 : decode cX2_digitOf 24 = .ok (.iload_n 3, 1) := by decide +kernel
theorem dX2_digitOf_25 : decode cX2_digitOf 25 = .ok (.aload_n 0, 1) := by decide +kernel
theorem dX2_digitOf_26 : decode cX2_digitOf 26 = .ok (.getfield 32, 3) := by decide +kernel
theorem dX2_digitOf_29 : decode cX2_digitOf 29 = .ok (.irem, 1) := by decide +kernel
theorem dX2_digitOf_30 : decode cX2_digitOf 30 = .ok (.ireturn, 1) := by decide +kernel
theorem dX2_times_0 : decode cX2_times 0 = .ok (.iconst 0, 1) := by decide +kernel
theorem dX2_times_1 : decode cX2_times 1 = .ok (.istore_n 3, 1) := by decide +kernel
theorem dX2_times_2 : decode cX2_times 2 = .ok (.iconst 0, 1) := by decide +kernel
theorem dX2_times_3 : decode cX2_times 3 = .ok (.istore 4, 2) := by decide +kernel
theorem dX2_times_5 : decode cX2_times 5 = .ok (.iload 4, 2) := by decide +kernel
theorem dX2_times_7 : decode cX2_times 7 = .ok (.aload_n 0, 1) := by decide +kernel
theorem dX2_times_8 : decode cX2_times 8 = .ok (.getfield 28, 3) := by decide +kernel
theorem dX2_times_11 : decode cX2_times 11 = .ok (.if_icmp .ge 28, 3) := by decide +kernel
theorem dX2_times_14 : decode cX2_times 14 = .ok (.aload_n 0, 1) := by decide +kernel
theorem dX2_times_15 : decode cX2_times 15 = .ok (.iload_n 1, 1) := by decide +kernel
theorem dX2_times_16 : decode cX2_times 16 = .ok (.iload 4, 2) := by decide +kernel
theorem dX2_times_18 : decode cX2_times 18 = .ok (.invokevirtual 42, 3) := by decide +kernel
theorem dX2_times_21 : decode cX2_times 21 = .ok (.iload_n 2, 1) := by decide +kernel
theorem dX2_times_22 : decode cX2_times 22 = .ok (.if_icmp .ne 9, 3) := by decide +kernel
theorem dX2_times_25 : decode cX2_times 25 = .ok (.iload_n 3, 1) := by decide +kernel
theorem dX2_times_26 : decode cX2_times 26 = .ok (.iconst 1, 1) := by decide +kernel
theorem dX2_times_27 : decode cX2_times 27 = .ok (.iadd, 1) := by decide +kernel
theorem dX2_times_28 : decode cX2_times 28 = .ok (.goto 4, 3) := by decide +kernel
theorem dX2_times_31 : decode cX2_times 31 = .ok (.iload_n 3, 1) := by decide +kernel
theorem dX2_times_32 : decode cX2_times 32 = .ok (.istore_n 3, 1) := by decide +kernel
theorem dX2_times_33 : decode cX2_times 33 = .ok (.iinc 4 1, 3) := by decide +kernel
theorem dX2_times_36 : decode cX2_times 36 = .ok (.goto (-31), 3) := by decide +kernel
theorem dX2_times_39 : decode cX2_times 39 = .ok (.iload_n 3, 1) := by decide +kernel
theorem dX2_times_40 : decode cX2_times 40 = .ok (.ireturn, 1) := by decide +kernel
theorem dX2_codes_0 : decode cX2_codes 0 = .ok (.aload_n 0, 1) := by decide +kernel
theorem dX2_codes_1 : decode cX2_codes 1 = .ok (.getfield 35, 3) := by decide +kernel
theorem dX2_codes_4 : decode cX2_codes 4 = .ok (.ireturn, 1) := by decide +kernel
theorem dX2_answer_0 : decode cX2_answer 0 = .ok (.aload_n 0, 1) := by decide +kernel
theorem dX2_answer_1 : decode cX2_answer 1 = .ok (.iload_n 1, 1) := by decide +kernel
theorem dX2_answer_2 : decode cX2_answer 2 = .ok (.invokevirtual 48, 3) := by decide +kernel
theorem dX2_answer_5 : decode cX2_answer 5 = .ok (.ifCond .eq 20, 3) := by decide +kernel
theorem dX2_answer_8 : decode cX2_answer 8 = .ok (.aload_n 0, 1) := by decide +kernel
theorem dX2_answer_9 : decode cX2_answer 9 = .ok (.iload_n 2, 1) := by decide +kernel
theorem dX2_answer_10 : decode cX2_answer 10 = .ok (.invokevirtual 48, 3) := by decide +kernel
theorem dX2_answer_13 : decode cX2_answer 13 = .ok (.ifCond .eq 12, 3) := by decide +kernel
theorem dX2_answer_16 : decode cX2_answer 16 = .ok (.aload_n 0, 1) := by decide +kernel
theorem dX2_answer_17 : decode cX2_answer 17 = .ok (.iload_n 1, 1) := by decide +kernel
theorem dX2_answer_18 : decode cX2_answer 18 = .ok (.iload_n 2, 1) := by decide +kernel
theorem dX2_answer_19 : decode cX2_answer 19 = .ok (.invokevirtual 52, 3) := by decide +kernel
theorem dX2_answer_22 : decode cX2_answer 22 = .ok (.goto 4, 3) := by decide +kernel
theorem dX2_answer_25 : decode cX2_answer 25 = .ok (.iconst (-1), 1) := by decide +kernel
theorem dX2_answer_26 : decode cX2_answer 26 = .ok (.ireturn, 1) := by decide +kernel
theorem dX2_isCode_0 : decode cX2_isCode 0 = .ok (.iload_n 1, 1) := by decide +kernel
theorem dX2_isCode_1 : decode cX2_isCode 1 = .ok (.ifCond .lt 15, 3) := by decide +kernel
theorem dX2_isCode_4 : decode cX2_isCode 4 = .ok (.iload_n 1, 1) := by decide +kernel
theorem dX2_isCode_5 : decode cX2_isCode 5 = .ok (.aload_n 0, 1) := by decide +kernel
theorem dX2_isCode_6 : decode cX2_isCode 6 = .ok (.getfield 35, 3) := by decide +kernel
theorem dX2_isCode_9 : decode cX2_isCode 9 = .ok (.if_icmp .ge 7, 3) := by decide +kernel
theorem dX2_isCode_12 : decode cX2_isCode 12 = .ok (.iconst 1, 1) := by decide +kernel
theorem dX2_isCode_13 : decode cX2_isCode 13 = .ok (.goto 4, 3) := by decide +kernel
theorem dX2_isCode_16 : decode cX2_isCode 16 = .ok (.iconst 0, 1) := by decide +kernel
theorem dX2_isCode_17 : decode cX2_isCode 17 = .ok (.ireturn, 1) := by decide +kernel
theorem dX2_answerTo_0 : decode cX2_answerTo 0 = .ok (.aload_n 0, 1) := by decide +kernel
theorem dX2_answerTo_1 : decode cX2_answerTo 1 = .ok (.getfield 25, 3) := by decide +kernel
theorem dX2_answerTo_4 : decode cX2_answerTo 4 = .ok (.bipush 81, 2) := by decide +kernel
theorem dX2_answerTo_6 : decode cX2_answerTo 6 = .ok (.iload_n 1, 1) := by decide +kernel
theorem dX2_answerTo_7 : decode cX2_answerTo 7 = .ok (.imul, 1) := by decide +kernel
theorem dX2_answerTo_8 : decode cX2_answerTo 8 = .ok (.iload_n 2, 1) := by decide +kernel
theorem dX2_answerTo_9 : decode cX2_answerTo 9 = .ok (.iadd, 1) := by decide +kernel
theorem dX2_answerTo_10 : decode cX2_answerTo 10 = .ok (.iaload, 1) := by decide +kernel
theorem dX2_answerTo_11 : decode cX2_answerTo 11 = .ok (.ireturn, 1) := by decide +kernel
theorem dX2_tell_0 : decode cX2_tell 0 = .ok (.aload_n 0, 1) := by decide +kernel
theorem dX2_tell_1 : decode cX2_tell 1 = .ok (.iload_n 1, 1) := by decide +kernel
theorem dX2_tell_2 : decode cX2_tell 2 = .ok (.invokevirtual 48, 3) := by decide +kernel
theorem dX2_tell_5 : decode cX2_tell 5 = .ok (.ifCond .eq 21, 3) := by decide +kernel
theorem dX2_tell_8 : decode cX2_tell 8 = .ok (.iload_n 2, 1) := by decide +kernel
theorem dX2_tell_9 : decode cX2_tell 9 = .ok (.ifCond .lt 17, 3) := by decide +kernel
theorem dX2_tell_12 : decode cX2_tell 12 = .ok (.iload_n 2, 1) := by decide +kernel
theorem dX2_tell_13 : decode cX2_tell 13 = .ok (.iconst 4, 1) := by decide +kernel
theorem dX2_tell_14 : decode cX2_tell 14 = .ok (.if_icmp .gt 12, 3) := by decide +kernel
theorem dX2_tell_17 : decode cX2_tell 17 = .ok (.iload_n 3, 1) := by decide +kernel
theorem dX2_tell_18 : decode cX2_tell 18 = .ok (.ifCond .lt 8, 3) := by decide +kernel
theorem dX2_tell_21 : decode cX2_tell 21 = .ok (.iload_n 3, 1) := by decide +kernel
theorem dX2_tell_22 : decode cX2_tell 22 = .ok (.iconst 4, 1) := by decide +kernel
theorem dX2_tell_23 : decode cX2_tell 23 = .ok (.if_icmp .le 5, 3) := by decide +kernel
theorem dX2_tell_26 : decode cX2_tell 26 = .ok (.iconst (-1), 1) := by decide +kernel
theorem dX2_tell_27 : decode cX2_tell 27 = .ok (.ireturn, 1) := by decide +kernel
theorem dX2_tell_28 : decode cX2_tell 28 = .ok (.aload_n 0, 1) := by decide +kernel
theorem dX2_tell_29 : decode cX2_tell 29 = .ok (.getfield 55, 3) := by decide +kernel
theorem dX2_tell_32 : decode cX2_tell 32 = .ok (.bipush 8, 2) := by decide +kernel
theorem dX2_tell_34 : decode cX2_tell 34 = .ok (.if_icmp .ne 6, 3) := by decide +kernel
theorem dX2_tell_37 : decode cX2_tell 37 = .ok (.bipush (-2), 2) := by decide +kernel
theorem dX2_tell_39 : decode cX2_tell 39 = .ok (.ireturn, 1) := by decide +kernel
theorem dX2_tell_40 : decode cX2_tell 40 = .ok (.aload_n 0, 1) := by decide +kernel
theorem dX2_tell_41 : decode cX2_tell 41 = .ok (.getfield 7, 3) := by decide +kernel
theorem dX2_tell_44 : decode cX2_tell 44 = .ok (.aload_n 0, 1) := by decide +kernel
theorem dX2_tell_45 : decode cX2_tell 45 = .ok (.getfield 55, 3) := by decide +kernel
theorem dX2_tell_48 : decode cX2_tell 48 = .ok (.iload_n 1, 1) := by decide +kernel
theorem dX2_tell_49 : decode cX2_tell 49 = .ok (.iastore, 1) := by decide +kernel
theorem dX2_tell_50 : decode cX2_tell 50 = .ok (.aload_n 0, 1) := by decide +kernel
theorem dX2_tell_51 : decode cX2_tell 51 = .ok (.getfield 13, 3) := by decide +kernel
theorem dX2_tell_54 : decode cX2_tell 54 = .ok (.aload_n 0, 1) := by decide +kernel
theorem dX2_tell_55 : decode cX2_tell 55 = .ok (.getfield 55, 3) := by decide +kernel
theorem dX2_tell_58 : decode cX2_tell 58 = .ok (.bipush 10, 2) := by decide +kernel
theorem dX2_tell_60 : decode cX2_tell 60 = .ok (.iload_n 2, 1) := by decide +kernel
theorem dX2_tell_61 : decode cX2_tell 61 = .ok (.imul, 1) := by decide +kernel
theorem dX2_tell_62 : decode cX2_tell 62 = .ok (.iload_n 3, 1) := by decide +kernel
theorem dX2_tell_63 : decode cX2_tell 63 = .ok (.iadd, 1) := by decide +kernel
theorem dX2_tell_64 : decode cX2_tell 64 = .ok (.iastore, 1) := by decide +kernel
theorem dX2_tell_65 : decode cX2_tell 65 = .ok (.aload_n 0, 1) := by decide +kernel
theorem dX2_tell_66 : decode cX2_tell 66 = .ok (.dup, 1) := by decide +kernel
theorem dX2_tell_67 : decode cX2_tell 67 = .ok (.getfield 55, 3) := by decide +kernel
theorem dX2_tell_70 : decode cX2_tell 70 = .ok (.iconst 1, 1) := by decide +kernel
theorem dX2_tell_71 : decode cX2_tell 71 = .ok (.iadd, 1) := by decide +kernel
theorem dX2_tell_72 : decode cX2_tell 72 = .ok (.putfield 55, 3) := by decide +kernel
theorem dX2_tell_75 : decode cX2_tell 75 = .ok (.aload_n 0, 1) := by decide +kernel
theorem dX2_tell_76 : decode cX2_tell 76 = .ok (.iconst (-1), 1) := by decide +kernel
theorem dX2_tell_77 : decode cX2_tell 77 = .ok (.invokevirtual 62, 3) := by decide +kernel
theorem dX2_tell_80 : decode cX2_tell 80 = .ok (.ireturn, 1) := by decide +kernel
theorem dX2_countPossible_0 : decode cX2_countPossible 0 = .ok (.iconst 0, 1) := by decide +kernel
theorem dX2_countPossible_1 : decode cX2_countPossible 1 = .ok (.istore_n 2, 1) := by decide +kernel
theorem dX2_countPossible_2 : decode cX2_countPossible 2 = .ok (.iconst 0, 1) := by decide +kernel
theorem dX2_countPossible_3 : decode cX2_countPossible 3 = .ok (.istore_n 3, 1) := by decide +kernel
end
section
set_option maxRecDepth 100000
theorem dX2_countPossible_4 : decode cX2_countPossible 4 = .ok (.iload_n 3, 1) := by decide +kernel
theorem dX2_countPossible_5 : decode cX2_countPossible 5 = .ok (.aload_n 0, 1) := by decide +kernel
theorem dX2_countPossible_6 : decode cX2_countPossible 6 = .ok (.getfield 35, 3) := by decide +kernel
theorem dX2_countPossible_9 : decode cX2_countPossible 9 = .ok (.if_icmp .ge 26, 3) := by decide +kernel
theorem dX2_countPossible_12 : decode cX2_countPossible 12 = .ok (.aload_n 0, 1) := by decide +kernel
theorem dX2_countPossible_13 : decode cX2_countPossible 13 = .ok (.iload_n 3, 1) := by decide +kernel
theorem dX2_countPossible_14 : decode cX2_countPossible 14 = .ok (.iload_n 1, 1) := by decide +kernel
theorem dX2_countPossible_15 : decode cX2_countPossible 15 = .ok (.invokevirtual 58, 3) := by decide +kernel
theorem dX2_countPossible_18 : decode cX2_countPossible 18 = .ok (.ifCond .eq 9, 3) := by decide +kernel
theorem dX2_countPossible_21 : decode cX2_countPossible 21 = .ok (.iload_n 2, 1) := by decide +kernel
theorem dX2_countPossible_22 : decode cX2_countPossible 22 = .ok (.iconst 1, 1) := by decide +kernel
theorem dX2_countPossible_23 : decode cX2_countPossible 23 = .ok (.iadd, 1) := by decide +kernel
theorem dX2_countPossible_24 : decode cX2_countPossible 24 = .ok (.goto 4, 3) := by decide +kernel
theorem dX2_countPossible_27 : decode cX2_countPossible 27 = .ok (.iload_n 2, 1) := by decide +kernel
theorem dX2_countPossible_28 : decode cX2_countPossible 28 = .ok (.istore_n 2, 1) := by decide +kernel
theorem dX2_countPossible_29 : decode cX2_countPossible 29 = .ok (.iinc 3 1, 3) := by decide +kernel
theorem dX2_countPossible_32 : decode cX2_countPossible 32 = .ok (.goto (-28), 3) := by decide +kernel
theorem dX2_countPossible_35 : decode cX2_countPossible 35 = .ok (.iload_n 2, 1) := by decide +kernel
theorem dX2_countPossible_36 : decode cX2_countPossible 36 = .ok (.ireturn, 1) := by decide +kernel
theorem dX2_agrees_0 : decode cX2_agrees 0 = .ok (.iconst 0, 1) := by decide +kernel
theorem dX2_agrees_1 : decode cX2_agrees 1 = .ok (.istore_n 3, 1) := by decide +kernel
theorem dX2_agrees_2 : decode cX2_agrees 2 = .ok (.iload_n 3, 1) := by decide +kernel
theorem dX2_agrees_3 : decode cX2_agrees 3 = .ok (.aload_n 0, 1) := by decide +kernel
theorem dX2_agrees_4 : decode cX2_agrees 4 = .ok (.getfield 55, 3) := by decide +kernel
theorem dX2_agrees_7 : decode cX2_agrees 7 = .ok (.if_icmp .ge 36, 3) := by decide +kernel
theorem dX2_agrees_10 : decode cX2_agrees 10 = .ok (.iload_n 3, 1) := by decide +kernel
theorem dX2_agrees_11 : decode cX2_agrees 11 = .ok (.iload_n 2, 1) := by decide +kernel
theorem dX2_agrees_12 : decode cX2_agrees 12 = .ok (.if_icmp .eq 25, 3) := by decide +kernel
theorem dX2_agrees_15 : decode cX2_agrees 15 = .ok (.aload_n 0, 1) := by decide +kernel
theorem dX2_agrees_16 : decode cX2_agrees 16 = .ok (.aload_n 0, 1) := by decide +kernel
theorem dX2_agrees_17 : decode cX2_agrees 17 = .ok (.getfield 7, 3) := by decide +kernel
theorem dX2_agrees_20 : decode cX2_agrees 20 = .ok (.iload_n 3, 1) := by decide +kernel
theorem dX2_agrees_21 : decode cX2_agrees 21 = .ok (.iaload, 1) := by decide +kernel
theorem dX2_agrees_22 : decode cX2_agrees 22 = .ok (.iload_n 1, 1) := by decide +kernel
theorem dX2_agrees_23 : decode cX2_agrees 23 = .ok (.invokevirtual 52, 3) := by decide +kernel
theorem dX2_agrees_26 : decode cX2_agrees 26 = .ok (.aload_n 0, 1) := by decide +kernel
theorem dX2_agrees_27 : decode cX2_agrees 27 = .ok (.getfield 13, 3) := by decide +kernel
theorem dX2_agrees_30 : decode cX2_agrees 30 = .ok (.iload_n 3, 1) := by decide +kernel
theorem dX2_agrees_31 : decode cX2_agrees 31 = .ok (.iaload, 1) := by decide +kernel
theorem dX2_agrees_32 : decode cX2_agrees 32 = .ok (.if_icmp .eq 5, 3) := by decide +kernel
theorem dX2_agrees_35 : decode cX2_agrees 35 = .ok (.iconst 0, 1) := by decide +kernel
theorem dX2_agrees_36 : decode cX2_agrees 36 = .ok (.ireturn, 1) := by decide +kernel
theorem dX2_agrees_37 : decode cX2_agrees 37 = .ok (.iinc 3 1, 3) := by decide +kernel
theorem dX2_agrees_40 : decode cX2_agrees 40 = .ok (.goto (-38), 3) := by decide +kernel
theorem dX2_agrees_43 : decode cX2_agrees 43 = .ok (.iconst 1, 1) := by decide +kernel
theorem dX2_agrees_44 : decode cX2_agrees 44 = .ok (.ireturn, 1) := by decide +kernel
theorem dX2_forget_0 : decode cX2_forget 0 = .ok (.aload_n 0, 1) := by decide +kernel
theorem dX2_forget_1 : decode cX2_forget 1 = .ok (.getfield 55, 3) := by decide +kernel
theorem dX2_forget_4 : decode cX2_forget 4 = .ok (.ifCond .ne 6, 3) := by decide +kernel
theorem dX2_forget_7 : decode cX2_forget 7 = .ok (.bipush (-3), 2) := by decide +kernel
theorem dX2_forget_9 : decode cX2_forget 9 = .ok (.ireturn, 1) := by decide +kernel
theorem dX2_forget_10 : decode cX2_forget 10 = .ok (.aload_n 0, 1) := by decide +kernel
theorem dX2_forget_11 : decode cX2_forget 11 = .ok (.dup, 1) := by decide +kernel
theorem dX2_forget_12 : decode cX2_forget 12 = .ok (.getfield 55, 3) := by decide +kernel
theorem dX2_forget_15 : decode cX2_forget 15 = .ok (.iconst 1, 1) := by decide +kernel
theorem dX2_forget_16 : decode cX2_forget 16 = .ok (.isub, 1) := by decide +kernel
theorem dX2_forget_17 : decode cX2_forget 17 = .ok (.putfield 55, 3) := by decide +kernel
theorem dX2_forget_20 : decode cX2_forget 20 = .ok (.aload_n 0, 1) := by decide +kernel
theorem dX2_forget_21 : decode cX2_forget 21 = .ok (.iconst (-1), 1) := by decide +kernel
theorem dX2_forget_22 : decode cX2_forget 22 = .ok (.invokevirtual 62, 3) := by decide +kernel
theorem dX2_forget_25 : decode cX2_forget 25 = .ok (.ireturn, 1) := by decide +kernel
theorem dX2_told_0 : decode cX2_told 0 = .ok (.aload_n 0, 1) := by decide +kernel
theorem dX2_told_1 : decode cX2_told 1 = .ok (.getfield 55, 3) := by decide +kernel
theorem dX2_told_4 : decode cX2_told 4 = .ok (.ireturn, 1) := by decide +kernel
theorem dX2_possible_0 : decode cX2_possible 0 = .ok (.aload_n 0, 1) := by decide +kernel
theorem dX2_possible_1 : decode cX2_possible 1 = .ok (.iconst (-1), 1) := by decide +kernel
theorem dX2_possible_2 : decode cX2_possible 2 = .ok (.invokevirtual 62, 3) := by decide +kernel
theorem dX2_possible_5 : decode cX2_possible 5 = .ok (.ireturn, 1) := by decide +kernel
theorem dX2_code_0 : decode cX2_code 0 = .ok (.iload_n 1, 1) := by decide +kernel
theorem dX2_code_1 : decode cX2_code 1 = .ok (.istore_n 2, 1) := by decide +kernel
theorem dX2_code_2 : decode cX2_code 2 = .ok (.iconst 0, 1) := by decide +kernel
theorem dX2_code_3 : decode cX2_code 3 = .ok (.istore_n 3, 1) := by decide +kernel
theorem dX2_code_4 : decode cX2_code 4 = .ok (.iload_n 3, 1) := by decide +kernel
theorem dX2_code_5 : decode cX2_code 5 = .ok (.aload_n 0, 1) := by decide +kernel
theorem dX2_code_6 : decode cX2_code 6 = .ok (.getfield 35, 3) := by decide +kernel
theorem dX2_code_9 : decode cX2_code 9 = .ok (.if_icmp .ge 27, 3) := by decide +kernel
theorem dX2_code_12 : decode cX2_code 12 = .ok (.aload_n 0, 1) := by decide +kernel
theorem dX2_code_13 : decode cX2_code 13 = .ok (.iload_n 3, 1) := by decide +kernel
theorem dX2_code_14 : decode cX2_code 14 = .ok (.iconst (-1), 1) := by decide +kernel
theorem dX2_code_15 : decode cX2_code 15 = .ok (.invokevirtual 58, 3) := by decide +kernel
theorem dX2_code_18 : decode cX2_code 18 = .ok (.ifCond .eq 12, 3) := by decide +kernel
theorem dX2_code_21 : decode cX2_code 21 = .ok (.iload_n 2, 1) := by decide +kernel
theorem dX2_code_22 : decode cX2_code 22 = .ok (.ifCond .ne 5, 3) := by decide +kernel
theorem dX2_code_25 : decode cX2_code 25 = .ok (.iload_n 3, 1) := by decide +kernel
theorem dX2_code_26 : decode cX2_code 26 = .ok (.ireturn, 1) := by decide +kernel
theorem dX2_code_27 : decode cX2_code 27 = .ok (.iinc 2 (-1), 3) := by decide +kernel
theorem dX2_code_30 : decode cX2_code 30 = .ok (.iinc 3 1, 3) := by decide +kernel
theorem dX2_code_33 : decode cX2_code 33 = .ok (.goto (-29), 3) := by decide +kernel
theorem dX2_code_36 : decode cX2_code 36 = .ok (.bipush (-3), 2) := by decide +kernel
theorem dX2_code_38 : decode cX2_code 38 = .ok (.ireturn, 1) := by decide +kernel
theorem dX2_canBe_0 : decode cX2_canBe 0 = .ok (.aload_n 0, 1) := by decide +kernel
theorem dX2_canBe_1 : decode cX2_canBe 1 = .ok (.iload_n 1, 1) := by decide +kernel
theorem dX2_canBe_2 : decode cX2_canBe 2 = .ok (.invokevirtual 48, 3) := by decide +kernel
theorem dX2_canBe_5 : decode cX2_canBe 5 = .ok (.ifCond .eq 16, 3) := by decide +kernel
theorem dX2_canBe_8 : decode cX2_canBe 8 = .ok (.aload_n 0, 1) := by decide +kernel
theorem dX2_canBe_9 : decode cX2_canBe 9 = .ok (.iload_n 1, 1) := by decide +kernel
theorem dX2_canBe_10 : decode cX2_canBe 10 = .ok (.iconst (-1), 1) := by decide +kernel
theorem dX2_canBe_11 : decode cX2_canBe 11 = .ok (.invokevirtual 58, 3) := by decide +kernel
theorem dX2_canBe_14 : decode cX2_canBe 14 = .ok (.ifCond .eq 7, 3) := by decide +kernel
theorem dX2_canBe_17 : decode cX2_canBe 17 = .ok (.iconst 1, 1) := by decide +kernel
theorem dX2_canBe_18 : decode cX2_canBe 18 = .ok (.goto 4, 3) := by decide +kernel
theorem dX2_canBe_21 : decode cX2_canBe 21 = .ok (.iconst 0, 1) := by decide +kernel
theorem dX2_canBe_22 : decode cX2_canBe 22 = .ok (.ireturn, 1) := by decide +kernel
theorem dX2_parts_0 : decode cX2_parts 0 = .ok (.aload_n 0, 1) := by decide +kernel
theorem dX2_parts_1 : decode cX2_parts 1 = .ok (.iload_n 1, 1) := by decide +kernel
theorem dX2_parts_2 : decode cX2_parts 2 = .ok (.invokevirtual 48, 3) := by decide +kernel
theorem dX2_parts_5 : decode cX2_parts 5 = .ok (.ifCond .ne 5, 3) := by decide +kernel
theorem dX2_parts_8 : decode cX2_parts 8 = .ok (.iconst (-1), 1) := by decide +kernel
theorem dX2_parts_9 : decode cX2_parts 9 = .ok (.ireturn, 1) := by decide +kernel
theorem dX2_parts_10 : decode cX2_parts 10 = .ok (.aload_n 0, 1) := by decide +kernel
theorem dX2_parts_11 : decode cX2_parts 11 = .ok (.iload_n 1, 1) := by decide +kernel
theorem dX2_parts_12 : decode cX2_parts 12 = .ok (.invokevirtual 66, 3) := by decide +kernel
theorem dX2_parts_15 : decode cX2_parts 15 = .ok (.iconst 0, 1) := by decide +kernel
theorem dX2_parts_16 : decode cX2_parts 16 = .ok (.istore_n 2, 1) := by decide +kernel
theorem dX2_parts_17 : decode cX2_parts 17 = .ok (.iconst 0, 1) := by decide +kernel
theorem dX2_parts_18 : decode cX2_parts 18 = .ok (.istore_n 3, 1) := by decide +kernel
theorem dX2_parts_19 : decode cX2_parts 19 = .ok (.iload_n 3, 1) := by decide +kernel
theorem dX2_parts_20 : decode cX2_parts 20 = .ok (.bipush 60, 2) := by decide +kernel
theorem dX2_parts_22 : decode cX2_parts 22 = .ok (.if_icmp .ge 26, 3) := by decide +kernel
theorem dX2_parts_25 : decode cX2_parts 25 = .ok (.aload_n 0, 1) := by decide +kernel
theorem dX2_parts_26 : decode cX2_parts 26 = .ok (.getfield 22, 3) := by decide +kernel
theorem dX2_parts_29 : decode cX2_parts 29 = .ok (.iload_n 3, 1) := by decide +kernel
theorem dX2_parts_30 : decode cX2_parts 30 = .ok (.iaload, 1) := by decide +kernel
theorem dX2_parts_31 : decode cX2_parts 31 = .ok (.ifCond .le 9, 3) := by decide +kernel
theorem dX2_parts_34 : decode cX2_parts 34 = .ok (.iload_n 2, 1) := by decide +kernel
theorem dX2_parts_35 : decode cX2_parts 35 = .ok (.iconst 1, 1) := by decide +kernel
theorem dX2_parts_36 : decode cX2_parts 36 = .ok (.iadd, 1) := by decide +kernel
theorem dX2_parts_37 : decode cX2_parts 37 = .ok (.goto 4, 3) := by decide +kernel
theorem dX2_parts_40 : decode cX2_parts 40 = .ok (.iload_n 2, 1) := by decide +kernel
theorem dX2_parts_41 : decode cX2_parts 41 = .ok (.istore_n 2, 1) := by decide +kernel
theorem dX2_parts_42 : decode cX2_parts 42 = .ok (.iinc 3 1, 3) := by decide +kernel
theorem dX2_parts_45 : decode cX2_parts 45 = .ok (.goto (-26), 3) := by decide +kernel
theorem dX2_parts_48 : decode cX2_parts 48 = .ok (.iload_n 2, 1) := by decide +kernel
theorem dX2_parts_49 : decode cX2_parts 49 = .ok (.ireturn, 1) := by decide +kernel
theorem dX2_part_0 : decode cX2_part 0 = .ok (.iconst 0, 1) := by decide +kernel
theorem dX2_part_1 : decode cX2_part 1 = .ok (.istore_n 2, 1) := by decide +kernel
theorem dX2_part_2 : decode cX2_part 2 = .ok (.iload_n 2, 1) := by decide +kernel
theorem dX2_part_3 : decode cX2_part 3 = .ok (.bipush 60, 2) := by decide +kernel
theorem dX2_part_5 : decode cX2_part 5 = .ok (.if_icmp .ge 16, 3) := by decide +kernel
theorem dX2_part_8 : decode cX2_part 8 = .ok (.aload_n 0, 1) := by decide +kernel
theorem dX2_part_9 : decode cX2_part 9 = .ok (.getfield 22, 3) := by decide +kernel
theorem dX2_part_12 : decode cX2_part 12 = .ok (.iload_n 2, 1) := by decide +kernel
theorem dX2_part_13 : decode cX2_part 13 = .ok (.iconst 0, 1) := by decide +kernel
theorem dX2_part_14 : decode cX2_part 14 = .ok (.iastore, 1) := by decide +kernel
theorem dX2_part_15 : decode cX2_part 15 = .ok (.iinc 2 1, 3) := by decide +kernel
theorem dX2_part_18 : decode cX2_part 18 = .ok (.goto (-16), 3) := by decide +kernel
theorem dX2_part_21 : decode cX2_part 21 = .ok (.iconst 0, 1) := by decide +kernel
theorem dX2_part_22 : decode cX2_part 22 = .ok (.istore_n 2, 1) := by decide +kernel
theorem dX2_part_23 : decode cX2_part 23 = .ok (.iload_n 2, 1) := by decide +kernel
theorem dX2_part_24 : decode cX2_part 24 = .ok (.aload_n 0, 1) := by decide +kernel
theorem dX2_part_25 : decode cX2_part 25 = .ok (.getfield 35, 3) := by decide +kernel
theorem dX2_part_28 : decode cX2_part 28 = .ok (.if_icmp .ge 33, 3) := by decide +kernel
theorem dX2_part_31 : decode cX2_part 31 = .ok (.aload_n 0, 1) := by decide +kernel
theorem dX2_part_32 : decode cX2_part 32 = .ok (.iload_n 2, 1) := by decide +kernel
theorem dX2_part_33 : decode cX2_part 33 = .ok (.iconst (-1), 1) := by decide +kernel
theorem dX2_part_34 : decode cX2_part 34 = .ok (.invokevirtual 58, 3) := by decide +kernel
theorem dX2_part_37 : decode cX2_part 37 = .ok (.ifCond .eq 18, 3) := by decide +kernel
theorem dX2_part_40 : decode cX2_part 40 = .ok (.aload_n 0, 1) := by decide +kernel
theorem dX2_part_41 : decode cX2_part 41 = .ok (.getfield 22, 3) := by decide +kernel
theorem dX2_part_44 : decode cX2_part 44 = .ok (.aload_n 0, 1) := by decide +kernel
theorem dX2_part_45 : decode cX2_part 45 = .ok (.iload_n 1, 1) := by decide +kernel
theorem dX2_part_46 : decode cX2_part 46 = .ok (.iload_n 2, 1) := by decide +kernel
theorem dX2_part_47 : decode cX2_part 47 = .ok (.invokevirtual 52, 3) := by decide +kernel
theorem dX2_part_50 : decode cX2_part 50 = .ok (.dup2, 1) := by decide +kernel
theorem dX2_part_51 : decode cX2_part 51 = .ok (.iaload, 1) := by decide +kernel
theorem dX2_part_52 : decode cX2_part 52 = .ok (.iconst 1, 1) := by decide +kernel
theorem dX2_part_53 : decode cX2_part 53 = .ok (.iadd, 1) := by decide +kernel
theorem dX2_part_54 : decode cX2_part 54 = .ok (.iastore, 1) := by decide +kernel
theorem dX2_part_55 : decode cX2_part 55 = .ok (.iinc 2 1, 3) := by decide +kernel
theorem dX2_part_58 : decode cX2_part 58 = .ok (.goto (-35), 3) := by decide +kernel
theorem dX2_part_61 : decode cX2_part 61 = .ok (.return_, 1) := by decide +kernel
theorem dX2_worst_0 : decode cX2_worst 0 = .ok (.aload_n 0, 1) := by decide +kernel
theorem dX2_worst_1 : decode cX2_worst 1 = .ok (.iload_n 1, 1) := by decide +kernel
theorem dX2_worst_2 : decode cX2_worst 2 = .ok (.invokevirtual 48, 3) := by decide +kernel
theorem dX2_worst_5 : decode cX2_worst 5 = .ok (.ifCond .eq 11, 3) := by decide +kernel
theorem dX2_worst_8 : decode cX2_worst 8 = .ok (.aload_n 0, 1) := by decide +kernel
theorem dX2_worst_9 : decode cX2_worst 9 = .ok (.iload_n 1, 1) := by decide +kernel
theorem dX2_worst_10 : decode cX2_worst 10 = .ok (.invokevirtual 70, 3) := by decide +kernel
theorem dX2_worst_13 : decode cX2_worst 13 = .ok (.goto 4, 3) := by decide +kernel
theorem dX2_worst_16 : decode cX2_worst 16 = .ok (.iconst (-1), 1) := by decide +kernel
theorem dX2_worst_17 : decode cX2_worst 17 = .ok (.ireturn, 1) := by decide +kernel
theorem dX2_worstOf_0 : decode cX2_worstOf 0 = .ok (.aload_n 0, 1) := by decide +kernel
theorem dX2_worstOf_1 : decode cX2_worstOf 1 = .ok (.iload_n 1, 1) := by decide +kernel
theorem dX2_worstOf_2 : decode cX2_worstOf 2 = .ok (.invokevirtual 66, 3) := by decide +kernel
theorem dX2_worstOf_5 : decode cX2_worstOf 5 = .ok (.iconst 0, 1) := by decide +kernel
theorem dX2_worstOf_6 : decode cX2_worstOf 6 = .ok (.istore_n 2, 1) := by decide +kernel
theorem dX2_worstOf_7 : decode cX2_worstOf 7 = .ok (.iconst 0, 1) := by decide +kernel
theorem dX2_worstOf_8 : decode cX2_worstOf 8 = .ok (.istore_n 3, 1) := by decide +kernel
theorem dX2_worstOf_9 : decode cX2_worstOf 9 = .ok (.iload_n 3, 1) := by decide +kernel
theorem dX2_worstOf_10 : decode cX2_worstOf 10 = .ok (.bipush 60, 2) := by decide +kernel
theorem dX2_worstOf_12 : decode cX2_worstOf 12 = .ok (.if_icmp .ge 30, 3) := by decide +kernel
theorem dX2_worstOf_15 : decode cX2_worstOf 15 = .ok (.aload_n 0, 1) := by decide +kernel
theorem dX2_worstOf_16 : decode cX2_worstOf 16 = .ok (.getfield 22, 3) := by decide +kernel
theorem dX2_worstOf_19 : decode cX2_worstOf 19 = .ok (.iload_n 3, 1) := by decide +kernel
theorem dX2_worstOf_20 : decode cX2_worstOf 20 = .ok (.iaload, 1) := by decide +kernel
theorem dX2_worstOf_21 : decode cX2_worstOf 21 = .ok (.iload_n 2, 1) := by decide +kernel
theorem dX2_worstOf_22 : decode cX2_worstOf 22 = .ok (.if_icmp .le 12, 3) := by decide +kernel
theorem dX2_worstOf_25 : decode cX2_worstOf 25 = .ok (.aload_n 0, 1) := by decide +kernel
theorem dX2_worstOf_26 : decode cX2_worstOf 26 = .ok (.getfield 22, 3) := by decide +kernel
theorem dX2_worstOf_29 : decode cX2_worstOf 29 = .ok (.iload_n 3, 1) := by decide +kernel
theorem dX2_worstOf_30 : decode cX2_worstOf 30 = .ok (.iaload, 1) := by decide +kernel
theorem dX2_worstOf_31 : decode cX2_worstOf 31 = .ok (.goto 4, 3) := by decide +kernel
theorem dX2_worstOf_34 : decode cX2_worstOf 34 = .ok (.iload_n 2, 1) := by decide +kernel
theorem dX2_worstOf_35 : decode cX2_worstOf 35 = .ok (.istore_n 2, 1) := by decide +kernel
theorem dX2_worstOf_36 : decode cX2_worstOf 36 = .ok (.iinc 3 1, 3) := by decide +kernel
theorem dX2_worstOf_39 : decode cX2_worstOf 39 = .ok (.goto (-30), 3) := by decide +kernel
theorem dX2_worstOf_42 : decode cX2_worstOf 42 = .ok (.iload_n 2, 1) := by decide +kernel
theorem dX2_worstOf_43 : decode cX2_worstOf 43 = .ok (.ireturn, 1) := by decide +kernel
theorem dX2_weight_0 : decode cX2_weight 0 = .ok (.aload_n 0, 1) := by decide +kernel
theorem dX2_weight_1 : decode cX2_weight 1 = .ok (.iload_n 1, 1) := by decide +kernel
theorem dX2_weight_2 : decode cX2_weight 2 = .ok (.invokevirtual 48, 3) := by decide +kernel
theorem dX2_weight_5 : decode cX2_weight 5 = .ok (.ifCond .eq 11, 3) := by decide +kernel
theorem dX2_weight_8 : decode cX2_weight 8 = .ok (.aload_n 0, 1) := by decide +kernel
theorem dX2_weight_9 : decode cX2_weight 9 = .ok (.iload_n 1, 1) := by decide +kernel
theorem dX2_weight_10 : decode cX2_weight 10 = .ok (.invokevirtual 73, 3) := by decide +kernel
theorem dX2_weight_13 : decode cX2_weight 13 = .ok (.goto 4, 3) := by decide +kernel
theorem dX2_weight_16 : decode cX2_weight 16 = .ok (.iconst (-1), 1) := by decide +kernel
theorem dX2_weight_17 : decode cX2_weight 17 = .ok (.ireturn, 1) := by decide +kernel
theorem dX2_weightOf_0 : decode cX2_weightOf 0 = .ok (.aload_n 0, 1) := by decide +kernel
theorem dX2_weightOf_1 : decode cX2_weightOf 1 = .ok (.iload_n 1, 1) := by decide +kernel
theorem dX2_weightOf_2 : decode cX2_weightOf 2 = .ok (.invokevirtual 66, 3) := by decide +kernel
theorem dX2_weightOf_5 : decode cX2_weightOf 5 = .ok (.iconst 0, 1) := by decide +kernel
theorem dX2_weightOf_6 : decode cX2_weightOf 6 = .ok (.istore_n 2, 1) := by decide +kernel
theorem dX2_weightOf_7 : decode cX2_weightOf 7 = .ok (.iconst 0, 1) := by decide +kernel
theorem dX2_weightOf_8 : decode cX2_weightOf 8 = .ok (.istore_n 3, 1) := by decide +kernel
theorem dX2_weightOf_9 : decode cX2_weightOf 9 = .ok (.iload_n 3, 1) := by decide +kernel
theorem dX2_weightOf_10 : decode cX2_weightOf 10 = .ok (.bipush 60, 2) := by decide +kernel
theorem dX2_weightOf_12 : decode cX2_weightOf 12 = .ok (.if_icmp .ge 25, 3) := by decide +kernel
theorem dX2_weightOf_15 : decode cX2_weightOf 15 = .ok (.iload_n 2, 1) := by decide +kernel
theorem dX2_weightOf_16 : decode cX2_weightOf 16 = .ok (.aload_n 0, 1) := by decide +kernel
theorem dX2_weightOf_17 : decode cX2_weightOf 17 = .ok (.getfield 22, 3) := by decide +kernel
theorem dX2_weightOf_20 : decode cX2_weightOf 20 = .ok (.iload_n 3, 1) := by decide +kernel
theorem dX2_weightOf_21 : decode cX2_weightOf 21 = .ok (.iaload, 1) := by decide +kernel
theorem dX2_weightOf_22 : decode cX2_weightOf 22 = .ok (.aload_n 0, 1) := by decide +kernel
theorem dX2_weightOf_23 : decode cX2_weightOf 23 = .ok (.getfield 22, 3) := by decide +kernel
theorem dX2_weightOf_26 : decode cX2_weightOf 26 = .ok (.iload_n 3, 1) := by decide +kernel
theorem dX2_weightOf_27 : decode cX2_weightOf 27 = .ok (.iaload, 1) := by decide +kernel
theorem dX2_weightOf_28 : decode cX2_weightOf 28 = .ok (.imul, 1) := by decide +kernel
theorem dX2_weightOf_29 : decode cX2_weightOf 29 = .ok (.iadd, 1) := by decide +kernel
theorem dX2_weightOf_30 : decode cX2_weightOf 30 = .ok (.istore_n 2, 1) := by decide +kernel
theorem dX2_weightOf_31 : decode cX2_weightOf 31 = .ok (.iinc 3 1, 3) := by decide +kernel
theorem dX2_weightOf_34 : decode cX2_weightOf 34 = .ok (.goto (-25), 3) := by decide +kernel
theorem dX2_weightOf_37 : decode cX2_weightOf 37 = .ok (.iload_n 2, 1) := by decide +kernel
theorem dX2_weightOf_38 : decode cX2_weightOf 38 = .ok (.ireturn, 1) := by decide +kernel
theorem dX2_safest_0 : decode cX2_safest 0 = .ok (.aload_n 0, 1) := by decide +kernel
theorem dX2_safest_1 : decode cX2_safest 1 = .ok (.iconst 1, 1) := by decide +kernel
theorem dX2_safest_2 : decode cX2_safest 2 = .ok (.invokevirtual 76, 3) := by decide +kernel
theorem dX2_safest_5 : decode cX2_safest 5 = .ok (.ireturn, 1) := by decide +kernel
theorem dX2_best_0 : decode cX2_best 0 = .ok (.aload_n 0, 1) := by decide +kernel
theorem dX2_best_1 : decode cX2_best 1 = .ok (.iconst (-1), 1) := by decide +kernel
theorem dX2_best_2 : decode cX2_best 2 = .ok (.invokevirtual 62, 3) := by decide +kernel
theorem dX2_best_5 : decode cX2_best 5 = .ok (.ifCond .ne 6, 3) := by decide +kernel
theorem dX2_best_8 : decode cX2_best 8 = .ok (.bipush (-3), 2) := by decide +kernel
theorem dX2_best_10 : decode cX2_best 10 = .ok (.ireturn, 1) := by decide +kernel
theorem dX2_best_11 : decode cX2_best 11 = .ok (.iconst (-1), 1) := by decide +kernel
theorem dX2_best_12 : decode cX2_best 12 = .ok (.istore_n 2, 1) := by decide +kernel
theorem dX2_best_13 : decode cX2_best 13 = .ok (.iconst 0, 1) := by decide +kernel
theorem dX2_best_14 : decode cX2_best 14 = .ok (.istore_n 3, 1) := by decide +kernel
theorem dX2_best_15 : decode cX2_best 15 = .ok (.iconst 0, 1) := by decide +kernel
theorem dX2_best_16 : decode cX2_best 16 = .ok (.istore 4, 2) := by decide +kernel
theorem dX2_best_18 : decode cX2_best 18 = .ok (.iload 4, 2) := by decide +kernel
theorem dX2_best_20 : decode cX2_best 20 = .ok (.aload_n 0, 1) := by decide +kernel
theorem dX2_best_21 : decode cX2_best 21 = .ok (.getfield 35, 3) := by decide +kernel
theorem dX2_best_24 : decode cX2_best 24 = .ok (.if_icmp .ge 64, 3) := by decide +kernel
theorem dX2_best_27 : decode cX2_best 27 = .ok (.iconst 2, 1) := by decide +kernel
theorem dX2_best_28 : decode cX2_best 28 = .ok (.iload_n 1, 1) := by decide +kernel
theorem dX2_best_29 : decode cX2_best 29 = .ok (.ifCond .eq 12, 3) := by decide +kernel
theorem dX2_best_32 : decode cX2_best 32 = .ok (.aload_n 0, 1) := by decide +kernel
theorem dX2_best_33 : decode cX2_best 33 = .ok (.iload 4, 2) := by decide +kernel
theorem dX2_best_35 : decode cX2_best 35 = .ok (.invokevirtual 70, 3) := by decide +kernel
theorem dX2_best_38 : decode cX2_best 38 = .ok (.goto 9, 3) := by decide +kernel
theorem dX2_best_41 : decode cX2_best 41 = .ok (.aload_n 0, 1) := by decide +kernel
theorem dX2_best_42 : decode cX2_best 42 = .ok (.iload 4, 2) := by decide +kernel
theorem dX2_best_44 : decode cX2_best 44 = .ok (.invokevirtual 73, 3) := by decide +kernel
theorem dX2_best_47 : decode cX2_best 47 = .ok (.imul, 1) := by decide +kernel
theorem dX2_best_48 : decode cX2_best 48 = .ok (.aload_n 0, 1) := by decide +kernel
theorem dX2_best_49 : decode cX2_best 49 = .ok (.iload 4, 2) := by decide +kernel
theorem dX2_best_51 : decode cX2_best 51 = .ok (.iconst (-1), 1) := by decide +kernel
theorem dX2_best_52 : decode cX2_best 52 = .ok (.invokevirtual 58, 3) := by decide +kernel
theorem dX2_best_55 : decode cX2_best 55 = .ok (.ifCond .eq 7, 3) := by decide +kernel
theorem dX2_best_58 : decode cX2_best 58 = .ok (.iconst 0, 1) := by decide +kernel
theorem dX2_best_59 : decode cX2_best 59 = .ok (.goto 4, 3) := by decide +kernel
theorem dX2_best_62 : decode cX2_best 62 = .ok (.iconst 1, 1) := by decide +kernel
theorem dX2_best_63 : decode cX2_best 63 = .ok (.iadd, 1) := by decide +kernel
theorem dX2_best_64 : decode cX2_best 64 = .ok (.istore 5, 2) := by decide +kernel
theorem dX2_best_66 : decode cX2_best 66 = .ok (.iload_n 2, 1) := by decide +kernel
theorem dX2_best_67 : decode cX2_best 67 = .ok (.ifCond .lt 9, 3) := by decide +kernel
theorem dX2_best_70 : decode cX2_best 70 = .ok (.iload 5, 2) := by decide +kernel
theorem dX2_best_72 : decode cX2_best 72 = .ok (.iload_n 3, 1) := by decide +kernel
theorem dX2_best_73 : decode cX2_best 73 = .ok (.if_icmp .ge 9, 3) := by decide +kernel
theorem dX2_best_76 : decode cX2_best 76 = .ok (.iload 4, 2) := by decide +kernel
theorem dX2_best_78 : decode cX2_best 78 = .ok (.istore_n 2, 1) := by decide +kernel
theorem dX2_best_79 : decode cX2_best 79 = .ok (.iload 5, 2) := by decide +kernel
theorem dX2_best_81 : decode cX2_best 81 = .ok (.istore_n 3, 1) := by decide +kernel
theorem dX2_best_82 : decode cX2_best 82 = .ok (.iinc 4 1, 3) := by decide +kernel
theorem dX2_best_85 : decode cX2_best 85 = .ok (.goto (-67), 3) := by decide +kernel
theorem dX2_best_88 : decode cX2_best 88 = .ok (.iload_n 2, 1) := by decide +kernel
theorem dX2_best_89 : decode cX2_best 89 = .ok (.ireturn, 1) := by decide +kernel
theorem dX2_sharpest_0 : decode cX2_sharpest 0 = .ok (.aload_n 0, 1) := by decide +kernel
theorem dX2_sharpest_1 : decode cX2_sharpest 1 = .ok (.iconst 0, 1) := by decide +kernel
end
section
set_option maxRecDepth 100000
theorem dX2_sharpest_2 : decode cX2_sharpest 2 = .ok (.invokevirtual 76, 3) := by decide +kernel
theorem dX2_sharpest_5 : decode cX2_sharpest 5 = .ok (.ireturn, 1) := by decide +kernel
theorem dX2_need_0 : decode cX2_need 0 = .ok (.aload_n 0, 1) := by decide +kernel
theorem dX2_need_1 : decode cX2_need 1 = .ok (.iconst 0, 1) := by decide +kernel
theorem dX2_need_2 : decode cX2_need 2 = .ok (.invokevirtual 98, 3) := by decide +kernel
theorem dX2_need_5 : decode cX2_need 5 = .ok (.ireturn, 1) := by decide +kernel
theorem dX2_solve_0 : decode cX2_solve 0 = .ok (.aload_n 0, 1) := by decide +kernel
theorem dX2_solve_1 : decode cX2_solve 1 = .ok (.aload_n 0, 1) := by decide +kernel
theorem dX2_solve_2 : decode cX2_solve 2 = .ok (.iconst (-1), 1) := by decide +kernel
theorem dX2_solve_3 : decode cX2_solve 3 = .ok (.invokevirtual 62, 3) := by decide +kernel
theorem dX2_solve_6 : decode cX2_solve 6 = .ok (.putfield 80, 3) := by decide +kernel
theorem dX2_solve_9 : decode cX2_solve 9 = .ok (.aload_n 0, 1) := by decide +kernel
theorem dX2_solve_10 : decode cX2_solve 10 = .ok (.getfield 80, 3) := by decide +kernel
theorem dX2_solve_13 : decode cX2_solve 13 = .ok (.bipush 8, 2) := by decide +kernel
theorem dX2_solve_15 : decode cX2_solve 15 = .ok (.if_icmp .le 6, 3) := by decide +kernel
theorem dX2_solve_18 : decode cX2_solve 18 = .ok (.bipush (-4), 2) := by decide +kernel
theorem dX2_solve_20 : decode cX2_solve 20 = .ok (.ireturn, 1) := by decide +kernel
theorem dX2_solve_21 : decode cX2_solve 21 = .ok (.iconst 0, 1) := by decide +kernel
theorem dX2_solve_22 : decode cX2_solve 22 = .ok (.istore_n 2, 1) := by decide +kernel
theorem dX2_solve_23 : decode cX2_solve 23 = .ok (.iconst 0, 1) := by decide +kernel
theorem dX2_solve_24 : decode cX2_solve 24 = .ok (.istore_n 3, 1) := by decide +kernel
theorem dX2_solve_25 : decode cX2_solve 25 = .ok (.iload_n 3, 1) := by decide +kernel
theorem dX2_solve_26 : decode cX2_solve 26 = .ok (.aload_n 0, 1) := by decide +kernel
theorem dX2_solve_27 : decode cX2_solve 27 = .ok (.getfield 35, 3) := by decide +kernel
theorem dX2_solve_30 : decode cX2_solve 30 = .ok (.if_icmp .ge 28, 3) := by decide +kernel
theorem dX2_solve_33 : decode cX2_solve 33 = .ok (.aload_n 0, 1) := by decide +kernel
theorem dX2_solve_34 : decode cX2_solve 34 = .ok (.iload_n 3, 1) := by decide +kernel
theorem dX2_solve_35 : decode cX2_solve 35 = .ok (.iconst (-1), 1) := by decide +kernel
theorem dX2_solve_36 : decode cX2_solve 36 = .ok (.invokevirtual 58, 3) := by decide +kernel
theorem dX2_solve_39 : decode cX2_solve 39 = .ok (.ifCond .eq 13, 3) := by decide +kernel
theorem dX2_solve_42 : decode cX2_solve 42 = .ok (.aload_n 0, 1) := by decide +kernel
theorem dX2_solve_43 : decode cX2_solve 43 = .ok (.getfield 16, 3) := by decide +kernel
theorem dX2_solve_46 : decode cX2_solve 46 = .ok (.iload_n 2, 1) := by decide +kernel
theorem dX2_solve_47 : decode cX2_solve 47 = .ok (.iload_n 3, 1) := by decide +kernel
theorem dX2_solve_48 : decode cX2_solve 48 = .ok (.iastore, 1) := by decide +kernel
theorem dX2_solve_49 : decode cX2_solve 49 = .ok (.iinc 2 1, 3) := by decide +kernel
theorem dX2_solve_52 : decode cX2_solve 52 = .ok (.iinc 3 1, 3) := by decide +kernel
theorem dX2_solve_55 : decode cX2_solve 55 = .ok (.goto (-30), 3) := by decide +kernel
theorem dX2_solve_58 : decode cX2_solve 58 = .ok (.iconst 0, 1) := by decide +kernel
theorem dX2_solve_59 : decode cX2_solve 59 = .ok (.istore_n 3, 1) := by decide +kernel
theorem dX2_solve_60 : decode cX2_solve 60 = .ok (.iload_n 3, 1) := by decide +kernel
theorem dX2_solve_61 : decode cX2_solve 61 = .ok (.sipush 256, 3) := by decide +kernel
theorem dX2_solve_64 : decode cX2_solve 64 = .ok (.if_icmp .ge 25, 3) := by decide +kernel
theorem dX2_solve_67 : decode cX2_solve 67 = .ok (.aload_n 0, 1) := by decide +kernel
theorem dX2_solve_68 : decode cX2_solve 68 = .ok (.getfield 19, 3) := by decide +kernel
theorem dX2_solve_71 : decode cX2_solve 71 = .ok (.iload_n 3, 1) := by decide +kernel
theorem dX2_solve_72 : decode cX2_solve 72 = .ok (.iload_n 3, 1) := by decide +kernel
theorem dX2_solve_73 : decode cX2_solve 73 = .ok (.ifCond .ne 7, 3) := by decide +kernel
theorem dX2_solve_76 : decode cX2_solve 76 = .ok (.iconst 0, 1) := by decide +kernel
theorem dX2_solve_77 : decode cX2_solve 77 = .ok (.goto 5, 3) := by decide +kernel
theorem dX2_solve_80 : decode cX2_solve 80 = .ok (.bipush 100, 2) := by decide +kernel
theorem dX2_solve_82 : decode cX2_solve 82 = .ok (.iastore, 1) := by decide +kernel
theorem dX2_solve_83 : decode cX2_solve 83 = .ok (.iinc 3 1, 3) := by decide +kernel
theorem dX2_solve_86 : decode cX2_solve 86 = .ok (.goto (-26), 3) := by decide +kernel
theorem dX2_solve_89 : decode cX2_solve 89 = .ok (.iconst 1, 1) := by decide +kernel
theorem dX2_solve_90 : decode cX2_solve 90 = .ok (.aload_n 0, 1) := by decide +kernel
theorem dX2_solve_91 : decode cX2_solve 91 = .ok (.getfield 80, 3) := by decide +kernel
theorem dX2_solve_94 : decode cX2_solve 94 = .ok (.ishl, 1) := by decide +kernel
theorem dX2_solve_95 : decode cX2_solve 95 = .ok (.iconst 1, 1) := by decide +kernel
theorem dX2_solve_96 : decode cX2_solve 96 = .ok (.isub, 1) := by decide +kernel
theorem dX2_solve_97 : decode cX2_solve 97 = .ok (.istore_n 3, 1) := by decide +kernel
theorem dX2_solve_98 : decode cX2_solve 98 = .ok (.iconst 1, 1) := by decide +kernel
theorem dX2_solve_99 : decode cX2_solve 99 = .ok (.istore 4, 2) := by decide +kernel
theorem dX2_solve_101 : decode cX2_solve 101 = .ok (.iload 4, 2) := by decide +kernel
theorem dX2_solve_103 : decode cX2_solve 103 = .ok (.bipush 10, 2) := by decide +kernel
theorem dX2_solve_105 : decode cX2_solve 105 = .ok (.if_icmp .ge 90, 3) := by decide +kernel
theorem dX2_solve_108 : decode cX2_solve 108 = .ok (.aload_n 0, 1) := by decide +kernel
theorem dX2_solve_109 : decode cX2_solve 109 = .ok (.getfield 19, 3) := by decide +kernel
theorem dX2_solve_112 : decode cX2_solve 112 = .ok (.iload_n 3, 1) := by decide +kernel
theorem dX2_solve_113 : decode cX2_solve 113 = .ok (.iaload, 1) := by decide +kernel
theorem dX2_solve_114 : decode cX2_solve 114 = .ok (.bipush 100, 2) := by decide +kernel
theorem dX2_solve_116 : decode cX2_solve 116 = .ok (.if_icmp .ne 79, 3) := by decide +kernel
theorem dX2_solve_119 : decode cX2_solve 119 = .ok (.iconst 1, 1) := by decide +kernel
theorem dX2_solve_120 : decode cX2_solve 120 = .ok (.istore 5, 2) := by decide +kernel
theorem dX2_solve_122 : decode cX2_solve 122 = .ok (.iload 5, 2) := by decide +kernel
theorem dX2_solve_124 : decode cX2_solve 124 = .ok (.iload_n 3, 1) := by decide +kernel
theorem dX2_solve_125 : decode cX2_solve 125 = .ok (.if_icmp .gt 64, 3) := by decide +kernel
theorem dX2_solve_128 : decode cX2_solve 128 = .ok (.aload_n 0, 1) := by decide +kernel
theorem dX2_solve_129 : decode cX2_solve 129 = .ok (.getfield 19, 3) := by decide +kernel
theorem dX2_solve_132 : decode cX2_solve 132 = .ok (.iload 5, 2) := by decide +kernel
theorem dX2_solve_134 : decode cX2_solve 134 = .ok (.iaload, 1) := by decide +kernel
theorem dX2_solve_135 : decode cX2_solve 135 = .ok (.bipush 100, 2) := by decide +kernel
theorem dX2_solve_137 : decode cX2_solve 137 = .ok (.if_icmp .ne 19, 3) := by decide +kernel
theorem dX2_solve_140 : decode cX2_solve 140 = .ok (.aload_n 0, 1) := by decide +kernel
theorem dX2_solve_141 : decode cX2_solve 141 = .ok (.iload 5, 2) := by decide +kernel
theorem dX2_solve_143 : decode cX2_solve 143 = .ok (.iload 4, 2) := by decide +kernel
theorem dX2_solve_145 : decode cX2_solve 145 = .ok (.iload_n 1, 1) := by decide +kernel
theorem dX2_solve_146 : decode cX2_solve 146 = .ok (.invokevirtual 94, 3) := by decide +kernel
theorem dX2_solve_149 : decode cX2_solve 149 = .ok (.ifCond .eq 7, 3) := by decide +kernel
theorem dX2_solve_152 : decode cX2_solve 152 = .ok (.iconst 1, 1) := by decide +kernel
theorem dX2_solve_153 : decode cX2_solve 153 = .ok (.goto 4, 3) := by decide +kernel
theorem dX2_solve_156 : decode cX2_solve 156 = .ok (.iconst 0, 1) := by decide +kernel
theorem dX2_solve_157 : decode cX2_solve 157 = .ok (.istore 6, 2) := by decide +kernel
theorem dX2_solve_159 : decode cX2_solve 159 = .ok (.aload_n 0, 1) := by decide +kernel
theorem dX2_solve_160 : decode cX2_solve 160 = .ok (.getfield 19, 3) := by decide +kernel
theorem dX2_solve_163 : decode cX2_solve 163 = .ok (.iload 5, 2) := by decide +kernel
theorem dX2_solve_165 : decode cX2_solve 165 = .ok (.iload 6, 2) := by decide +kernel
theorem dX2_solve_167 : decode cX2_solve 167 = .ok (.ifCond .eq 8, 3) := by decide +kernel
theorem dX2_solve_170 : decode cX2_solve 170 = .ok (.iload 4, 2) := by decide +kernel
theorem dX2_solve_172 : decode cX2_solve 172 = .ok (.goto 10, 3) := by decide +kernel
theorem dX2_solve_175 : decode cX2_solve 175 = .ok (.aload_n 0, 1) := by decide +kernel
theorem dX2_solve_176 : decode cX2_solve 176 = .ok (.getfield 19, 3) := by decide +kernel
theorem dX2_solve_179 : decode cX2_solve 179 = .ok (.iload 5, 2) := by decide +kernel
theorem dX2_solve_181 : decode cX2_solve 181 = .ok (.iaload, 1) := by decide +kernel
theorem dX2_solve_182 : decode cX2_solve 182 = .ok (.iastore, 1) := by decide +kernel
theorem dX2_solve_183 : decode cX2_solve 183 = .ok (.iinc 5 1, 3) := by decide +kernel
theorem dX2_solve_186 : decode cX2_solve 186 = .ok (.goto (-64), 3) := by decide +kernel
theorem dX2_solve_189 : decode cX2_solve 189 = .ok (.iinc 4 1, 3) := by decide +kernel
theorem dX2_solve_192 : decode cX2_solve 192 = .ok (.goto (-91), 3) := by decide +kernel
theorem dX2_solve_195 : decode cX2_solve 195 = .ok (.aload_n 0, 1) := by decide +kernel
theorem dX2_solve_196 : decode cX2_solve 196 = .ok (.getfield 19, 3) := by decide +kernel
theorem dX2_solve_199 : decode cX2_solve 199 = .ok (.iload_n 3, 1) := by decide +kernel
theorem dX2_solve_200 : decode cX2_solve 200 = .ok (.iaload, 1) := by decide +kernel
theorem dX2_solve_201 : decode cX2_solve 201 = .ok (.ireturn, 1) := by decide +kernel
theorem dX2_canBeDone_0 : decode cX2_canBeDone 0 = .ok (.iconst 0, 1) := by decide +kernel
theorem dX2_canBeDone_1 : decode cX2_canBeDone 1 = .ok (.istore 4, 2) := by decide +kernel
theorem dX2_canBeDone_3 : decode cX2_canBeDone 3 = .ok (.iload 4, 2) := by decide +kernel
theorem dX2_canBeDone_5 : decode cX2_canBeDone 5 = .ok (.aload_n 0, 1) := by decide +kernel
theorem dX2_canBeDone_6 : decode cX2_canBeDone 6 = .ok (.getfield 35, 3) := by decide +kernel
theorem dX2_canBeDone_9 : decode cX2_canBeDone 9 = .ok (.if_icmp .ge 38, 3) := by decide +kernel
theorem dX2_canBeDone_12 : decode cX2_canBeDone 12 = .ok (.iload_n 3, 1) := by decide +kernel
theorem dX2_canBeDone_13 : decode cX2_canBeDone 13 = .ok (.ifCond .eq 13, 3) := by decide +kernel
theorem dX2_canBeDone_16 : decode cX2_canBeDone 16 = .ok (.aload_n 0, 1) := by decide +kernel
theorem dX2_canBeDone_17 : decode cX2_canBeDone 17 = .ok (.iload_n 1, 1) := by decide +kernel
theorem dX2_canBeDone_18 : decode cX2_canBeDone 18 = .ok (.iload 4, 2) := by decide +kernel
theorem dX2_canBeDone_20 : decode cX2_canBeDone 20 = .ok (.invokevirtual 87, 3) := by decide +kernel
theorem dX2_canBeDone_23 : decode cX2_canBeDone 23 = .ok (.ifCond .eq 18, 3) := by decide +kernel
theorem dX2_canBeDone_26 : decode cX2_canBeDone 26 = .ok (.aload_n 0, 1) := by decide +kernel
theorem dX2_canBeDone_27 : decode cX2_canBeDone 27 = .ok (.iload_n 1, 1) := by decide +kernel
theorem dX2_canBeDone_28 : decode cX2_canBeDone 28 = .ok (.iload 4, 2) := by decide +kernel
theorem dX2_canBeDone_30 : decode cX2_canBeDone 30 = .ok (.iload_n 2, 1) := by decide +kernel
theorem dX2_canBeDone_31 : decode cX2_canBeDone 31 = .ok (.iconst 1, 1) := by decide +kernel
theorem dX2_canBeDone_32 : decode cX2_canBeDone 32 = .ok (.isub, 1) := by decide +kernel
theorem dX2_canBeDone_33 : decode cX2_canBeDone 33 = .ok (.invokevirtual 90, 3) := by decide +kernel
theorem dX2_canBeDone_36 : decode cX2_canBeDone 36 = .ok (.ifCond .eq 5, 3) := by decide +kernel
theorem dX2_canBeDone_39 : decode cX2_canBeDone 39 = .ok (.iconst 1, 1) := by decide +kernel
theorem dX2_canBeDone_40 : decode cX2_canBeDone 40 = .ok (.ireturn, 1) := by decide +kernel
theorem dX2_canBeDone_41 : decode cX2_canBeDone 41 = .ok (.iinc 4 1, 3) := by decide +kernel
theorem dX2_canBeDone_44 : decode cX2_canBeDone 44 = .ok (.goto (-41), 3) := by decide +kernel
theorem dX2_canBeDone_47 : decode cX2_canBeDone 47 = .ok (.iconst 0, 1) := by decide +kernel
theorem dX2_canBeDone_48 : decode cX2_canBeDone 48 = .ok (.ireturn, 1) := by decide +kernel
theorem dX2_isIn_0 : decode cX2_isIn 0 = .ok (.iconst 0, 1) := by decide +kernel
theorem dX2_isIn_1 : decode cX2_isIn 1 = .ok (.istore_n 3, 1) := by decide +kernel
theorem dX2_isIn_2 : decode cX2_isIn 2 = .ok (.iload_n 3, 1) := by decide +kernel
theorem dX2_isIn_3 : decode cX2_isIn 3 = .ok (.aload_n 0, 1) := by decide +kernel
theorem dX2_isIn_4 : decode cX2_isIn 4 = .ok (.getfield 80, 3) := by decide +kernel
theorem dX2_isIn_7 : decode cX2_isIn 7 = .ok (.if_icmp .ge 30, 3) := by decide +kernel
theorem dX2_isIn_10 : decode cX2_isIn 10 = .ok (.iload_n 1, 1) := by decide +kernel
theorem dX2_isIn_11 : decode cX2_isIn 11 = .ok (.iload_n 3, 1) := by decide +kernel
theorem dX2_isIn_12 : decode cX2_isIn 12 = .ok (.ishr, 1) := by decide +kernel
theorem dX2_isIn_13 : decode cX2_isIn 13 = .ok (.iconst 1, 1) := by decide +kernel
theorem dX2_isIn_14 : decode cX2_isIn 14 = .ok (.iand, 1) := by decide +kernel
theorem dX2_isIn_15 : decode cX2_isIn 15 = .ok (.iconst 1, 1) := by decide +kernel
theorem dX2_isIn_16 : decode cX2_isIn 16 = .ok (.if_icmp .ne 15, 3) := by decide +kernel
theorem dX2_isIn_19 : decode cX2_isIn 19 = .ok (.aload_n 0, 1) := by decide +kernel
theorem dX2_isIn_20 : decode cX2_isIn 20 = .ok (.getfield 16, 3) := by decide +kernel
theorem dX2_isIn_23 : decode cX2_isIn 23 = .ok (.iload_n 3, 1) := by decide +kernel
theorem dX2_isIn_24 : decode cX2_isIn 24 = .ok (.iaload, 1) := by decide +kernel
theorem dX2_isIn_25 : decode cX2_isIn 25 = .ok (.iload_n 2, 1) := by decide +kernel
theorem dX2_isIn_26 : decode cX2_isIn 26 = .ok (.if_icmp .ne 5, 3) := by decide +kernel
theorem dX2_isIn_29 : decode cX2_isIn 29 = .ok (.iconst 1, 1) := by decide +kernel
theorem dX2_isIn_30 : decode cX2_isIn 30 = .ok (.ireturn, 1) := by decide +kernel
theorem dX2_isIn_31 : decode cX2_isIn 31 = .ok (.iinc 3 1, 3) := by decide +kernel
theorem dX2_isIn_34 : decode cX2_isIn 34 = .ok (.goto (-32), 3) := by decide +kernel
theorem dX2_isIn_37 : decode cX2_isIn 37 = .ok (.iconst 0, 1) := by decide +kernel
theorem dX2_isIn_38 : decode cX2_isIn 38 = .ok (.ireturn, 1) := by decide +kernel
theorem dX2_leaves_0 : decode cX2_leaves 0 = .ok (.iload_n 1, 1) := by decide +kernel
theorem dX2_leaves_1 : decode cX2_leaves 1 = .ok (.istore 4, 2) := by decide +kernel
theorem dX2_leaves_3 : decode cX2_leaves 3 = .ok (.iload 4, 2) := by decide +kernel
theorem dX2_leaves_5 : decode cX2_leaves 5 = .ok (.ifCond .eq 84, 3) := by decide +kernel
theorem dX2_leaves_8 : decode cX2_leaves 8 = .ok (.iconst 0, 1) := by decide +kernel
theorem dX2_leaves_9 : decode cX2_leaves 9 = .ok (.istore 5, 2) := by decide +kernel
theorem dX2_leaves_11 : decode cX2_leaves 11 = .ok (.iload 4, 2) := by decide +kernel
theorem dX2_leaves_13 : decode cX2_leaves 13 = .ok (.iload 5, 2) := by decide +kernel
theorem dX2_leaves_15 : decode cX2_leaves 15 = .ok (.ishr, 1) := by decide +kernel
theorem dX2_leaves_16 : decode cX2_leaves 16 = .ok (.iconst 1, 1) := by decide +kernel
theorem dX2_leaves_17 : decode cX2_leaves 17 = .ok (.iand, 1) := by decide +kernel
theorem dX2_leaves_18 : decode cX2_leaves 18 = .ok (.ifCond .ne 9, 3) := by decide +kernel
theorem dX2_leaves_21 : decode cX2_leaves 21 = .ok (.iinc 5 1, 3) := by decide +kernel
theorem dX2_leaves_24 : decode cX2_leaves 24 = .ok (.goto (-13), 3) := by decide +kernel
theorem dX2_leaves_27 : decode cX2_leaves 27 = .ok (.aload_n 0, 1) := by decide +kernel
theorem dX2_leaves_28 : decode cX2_leaves 28 = .ok (.iload_n 2, 1) := by decide +kernel
theorem dX2_leaves_29 : decode cX2_leaves 29 = .ok (.aload_n 0, 1) := by decide +kernel
theorem dX2_leaves_30 : decode cX2_leaves 30 = .ok (.getfield 16, 3) := by decide +kernel
theorem dX2_leaves_33 : decode cX2_leaves 33 = .ok (.iload 5, 2) := by decide +kernel
theorem dX2_leaves_35 : decode cX2_leaves 35 = .ok (.iaload, 1) := by decide +kernel
theorem dX2_leaves_36 : decode cX2_leaves 36 = .ok (.invokevirtual 52, 3) := by decide +kernel
theorem dX2_leaves_39 : decode cX2_leaves 39 = .ok (.istore 6, 2) := by decide +kernel
theorem dX2_leaves_41 : decode cX2_leaves 41 = .ok (.aload_n 0, 1) := by decide +kernel
theorem dX2_leaves_42 : decode cX2_leaves 42 = .ok (.iload 4, 2) := by decide +kernel
theorem dX2_leaves_44 : decode cX2_leaves 44 = .ok (.iload_n 2, 1) := by decide +kernel
theorem dX2_leaves_45 : decode cX2_leaves 45 = .ok (.iload 6, 2) := by decide +kernel
theorem dX2_leaves_47 : decode cX2_leaves 47 = .ok (.invokevirtual 83, 3) := by decide +kernel
theorem dX2_leaves_50 : decode cX2_leaves 50 = .ok (.istore 7, 2) := by decide +kernel
theorem dX2_leaves_52 : decode cX2_leaves 52 = .ok (.iload 6, 2) := by decide +kernel
theorem dX2_leaves_54 : decode cX2_leaves 54 = .ok (.bipush 10, 2) := by decide +kernel
theorem dX2_leaves_56 : decode cX2_leaves 56 = .ok (.aload_n 0, 1) := by decide +kernel
theorem dX2_leaves_57 : decode cX2_leaves 57 = .ok (.getfield 28, 3) := by decide +kernel
theorem dX2_leaves_60 : decode cX2_leaves 60 = .ok (.imul, 1) := by decide +kernel
theorem dX2_leaves_61 : decode cX2_leaves 61 = .ok (.if_icmp .eq 16, 3) := by decide +kernel
theorem dX2_leaves_64 : decode cX2_leaves 64 = .ok (.aload_n 0, 1) := by decide +kernel
theorem dX2_leaves_65 : decode cX2_leaves 65 = .ok (.getfield 19, 3) := by decide +kernel
theorem dX2_leaves_68 : decode cX2_leaves 68 = .ok (.iload 7, 2) := by decide +kernel
theorem dX2_leaves_70 : decode cX2_leaves 70 = .ok (.iaload, 1) := by decide +kernel
theorem dX2_leaves_71 : decode cX2_leaves 71 = .ok (.iload_n 3, 1) := by decide +kernel
theorem dX2_leaves_72 : decode cX2_leaves 72 = .ok (.if_icmp .le 5, 3) := by decide +kernel
theorem dX2_leaves_75 : decode cX2_leaves 75 = .ok (.iconst 0, 1) := by decide +kernel
theorem dX2_leaves_76 : decode cX2_leaves 76 = .ok (.ireturn, 1) := by decide +kernel
theorem dX2_leaves_77 : decode cX2_leaves 77 = .ok (.iload 4, 2) := by decide +kernel
theorem dX2_leaves_79 : decode cX2_leaves 79 = .ok (.iload 7, 2) := by decide +kernel
theorem dX2_leaves_81 : decode cX2_leaves 81 = .ok (.iconst (-1), 1) := by decide +kernel
theorem dX2_leaves_82 : decode cX2_leaves 82 = .ok (.ixor, 1) := by decide +kernel
theorem dX2_leaves_83 : decode cX2_leaves 83 = .ok (.iand, 1) := by decide +kernel
theorem dX2_leaves_84 : decode cX2_leaves 84 = .ok (.istore 4, 2) := by decide +kernel
theorem dX2_leaves_86 : decode cX2_leaves 86 = .ok (.goto (-83), 3) := by decide +kernel
theorem dX2_leaves_89 : decode cX2_leaves 89 = .ok (.iconst 1, 1) := by decide +kernel
theorem dX2_leaves_90 : decode cX2_leaves 90 = .ok (.ireturn, 1) := by decide +kernel
theorem dX2_partOf_0 : decode cX2_partOf 0 = .ok (.iconst 0, 1) := by decide +kernel
theorem dX2_partOf_1 : decode cX2_partOf 1 = .ok (.istore 4, 2) := by decide +kernel
theorem dX2_partOf_3 : decode cX2_partOf 3 = .ok (.iconst 0, 1) := by decide +kernel
theorem dX2_partOf_4 : decode cX2_partOf 4 = .ok (.istore 5, 2) := by decide +kernel
theorem dX2_partOf_6 : decode cX2_partOf 6 = .ok (.iload 5, 2) := by decide +kernel
theorem dX2_partOf_8 : decode cX2_partOf 8 = .ok (.aload_n 0, 1) := by decide +kernel
theorem dX2_partOf_9 : decode cX2_partOf 9 = .ok (.getfield 80, 3) := by decide +kernel
theorem dX2_partOf_12 : decode cX2_partOf 12 = .ok (.if_icmp .ge 61, 3) := by decide +kernel
theorem dX2_partOf_15 : decode cX2_partOf 15 = .ok (.iload_n 1, 1) := by decide +kernel
theorem dX2_partOf_16 : decode cX2_partOf 16 = .ok (.iload 5, 2) := by decide +kernel
theorem dX2_partOf_18 : decode cX2_partOf 18 = .ok (.ishr, 1) := by decide +kernel
theorem dX2_partOf_19 : decode cX2_partOf 19 = .ok (.iconst 1, 1) := by decide +kernel
theorem dX2_partOf_20 : decode cX2_partOf 20 = .ok (.iand, 1) := by decide +kernel
theorem dX2_partOf_21 : decode cX2_partOf 21 = .ok (.iconst 1, 1) := by decide +kernel
theorem dX2_partOf_22 : decode cX2_partOf 22 = .ok (.if_icmp .ne 23, 3) := by decide +kernel
theorem dX2_partOf_25 : decode cX2_partOf 25 = .ok (.aload_n 0, 1) := by decide +kernel
theorem dX2_partOf_26 : decode cX2_partOf 26 = .ok (.iload_n 2, 1) := by decide +kernel
theorem dX2_partOf_27 : decode cX2_partOf 27 = .ok (.aload_n 0, 1) := by decide +kernel
theorem dX2_partOf_28 : decode cX2_partOf 28 = .ok (.getfield 16, 3) := by decide +kernel
theorem dX2_partOf_31 : decode cX2_partOf 31 = .ok (.iload 5, 2) := by decide +kernel
theorem dX2_partOf_33 : decode cX2_partOf 33 = .ok (.iaload, 1) := by decide +kernel
theorem dX2_partOf_34 : decode cX2_partOf 34 = .ok (.invokevirtual 52, 3) := by decide +kernel
theorem dX2_partOf_37 : decode cX2_partOf 37 = .ok (.iload_n 3, 1) := by decide +kernel
theorem dX2_partOf_38 : decode cX2_partOf 38 = .ok (.if_icmp .ne 7, 3) := by decide +kernel
theorem dX2_partOf_41 : decode cX2_partOf 41 = .ok (.iconst 1, 1) := by decide +kernel
theorem dX2_partOf_42 : decode cX2_partOf 42 = .ok (.goto 4, 3) := by decide +kernel
theorem dX2_partOf_45 : decode cX2_partOf 45 = .ok (.iconst 0, 1) := by decide +kernel
theorem dX2_partOf_46 : decode cX2_partOf 46 = .ok (.istore 6, 2) := by decide +kernel
theorem dX2_partOf_48 : decode cX2_partOf 48 = .ok (.iload 6, 2) := by decide +kernel
theorem dX2_partOf_50 : decode cX2_partOf 50 = .ok (.ifCond .eq 13, 3) := by decide +kernel
theorem dX2_partOf_53 : decode cX2_partOf 53 = .ok (.iload 4, 2) := by decide +kernel
theorem dX2_partOf_55 : decode cX2_partOf 55 = .ok (.iconst 1, 1) := by decide +kernel
theorem dX2_partOf_56 : decode cX2_partOf 56 = .ok (.iload 5, 2) := by decide +kernel
theorem dX2_partOf_58 : decode cX2_partOf 58 = .ok (.ishl, 1) := by decide +kernel
theorem dX2_partOf_59 : decode cX2_partOf 59 = .ok (.ior, 1) := by decide +kernel
theorem dX2_partOf_60 : decode cX2_partOf 60 = .ok (.goto 5, 3) := by decide +kernel
theorem dX2_partOf_63 : decode cX2_partOf 63 = .ok (.iload 4, 2) := by decide +kernel
theorem dX2_partOf_65 : decode cX2_partOf 65 = .ok (.istore 4, 2) := by decide +kernel
theorem dX2_partOf_67 : decode cX2_partOf 67 = .ok (.iinc 5 1, 3) := by decide +kernel
theorem dX2_partOf_70 : decode cX2_partOf 70 = .ok (.goto (-64), 3) := by decide +kernel
theorem dX2_partOf_73 : decode cX2_partOf 73 = .ok (.iload 4, 2) := by decide +kernel
theorem dX2_partOf_75 : decode cX2_partOf 75 = .ok (.ireturn, 1) := by decide +kernel
theorem dX2_needKept_0 : decode cX2_needKept 0 = .ok (.aload_n 0, 1) := by decide +kernel
theorem dX2_needKept_1 : decode cX2_needKept 1 = .ok (.iconst 1, 1) := by decide +kernel
theorem dX2_needKept_2 : decode cX2_needKept 2 = .ok (.invokevirtual 98, 3) := by decide +kernel
theorem dX2_needKept_5 : decode cX2_needKept 5 = .ok (.ireturn, 1) := by decide +kernel
theorem dX2_first_0 : decode cX2_first 0 = .ok (.aload_n 0, 1) := by decide +kernel
theorem dX2_first_1 : decode cX2_first 1 = .ok (.iconst 0, 1) := by decide +kernel
theorem dX2_first_2 : decode cX2_first 2 = .ok (.invokevirtual 98, 3) := by decide +kernel
theorem dX2_first_5 : decode cX2_first 5 = .ok (.istore_n 1, 1) := by decide +kernel
theorem dX2_first_6 : decode cX2_first 6 = .ok (.iload_n 1, 1) := by decide +kernel
theorem dX2_first_7 : decode cX2_first 7 = .ok (.ifCond .gt 15, 3) := by decide +kernel
theorem dX2_first_10 : decode cX2_first 10 = .ok (.iload_n 1, 1) := by decide +kernel
theorem dX2_first_11 : decode cX2_first 11 = .ok (.ifCond .ne 8, 3) := by decide +kernel
theorem dX2_first_14 : decode cX2_first 14 = .ok (.bipush (-3), 2) := by decide +kernel
theorem dX2_first_16 : decode cX2_first 16 = .ok (.goto 5, 3) := by decide +kernel
theorem dX2_first_19 : decode cX2_first 19 = .ok (.bipush (-4), 2) := by decide +kernel
theorem dX2_first_21 : decode cX2_first 21 = .ok (.ireturn, 1) := by decide +kernel
theorem dX2_first_22 : decode cX2_first 22 = .ok (.iconst 0, 1) := by decide +kernel
theorem dX2_first_23 : decode cX2_first 23 = .ok (.istore_n 2, 1) := by decide +kernel
theorem dX2_first_24 : decode cX2_first 24 = .ok (.aload_n 0, 1) := by decide +kernel
theorem dX2_first_25 : decode cX2_first 25 = .ok (.iconst 1, 1) := by decide +kernel
theorem dX2_first_26 : decode cX2_first 26 = .ok (.aload_n 0, 1) := by decide +kernel
theorem dX2_first_27 : decode cX2_first 27 = .ok (.getfield 80, 3) := by decide +kernel
theorem dX2_first_30 : decode cX2_first 30 = .ok (.ishl, 1) := by decide +kernel
theorem dX2_first_31 : decode cX2_first 31 = .ok (.iconst 1, 1) := by decide +kernel
theorem dX2_first_32 : decode cX2_first 32 = .ok (.isub, 1) := by decide +kernel
theorem dX2_first_33 : decode cX2_first 33 = .ok (.iload_n 2, 1) := by decide +kernel
theorem dX2_first_34 : decode cX2_first 34 = .ok (.iload_n 1, 1) := by decide +kernel
theorem dX2_first_35 : decode cX2_first 35 = .ok (.iconst 1, 1) := by decide +kernel
theorem dX2_first_36 : decode cX2_first 36 = .ok (.isub, 1) := by decide +kernel
theorem dX2_first_37 : decode cX2_first 37 = .ok (.invokevirtual 90, 3) := by decide +kernel
theorem dX2_first_40 : decode cX2_first 40 = .ok (.ifCond .ne 9, 3) := by decide +kernel
theorem dX2_first_43 : decode cX2_first 43 = .ok (.iinc 2 1, 3) := by decide +kernel
theorem dX2_first_46 : decode cX2_first 46 = .ok (.goto (-22), 3) := by decide +kernel
theorem dX2_first_49 : decode cX2_first 49 = .ok (.iload_n 2, 1) := by decide +kernel
theorem dX2_first_50 : decode cX2_first 50 = .ok (.ireturn, 1) := by decide +kernel
theorem dX2_useful_0 : decode cX2_useful 0 = .ok (.aload_n 0, 1) := by decide +kernel
theorem dX2_useful_1 : decode cX2_useful 1 = .ok (.iconst (-1), 1) := by decide +kernel
theorem dX2_useful_2 : decode cX2_useful 2 = .ok (.invokevirtual 62, 3) := by decide +kernel
theorem dX2_useful_5 : decode cX2_useful 5 = .ok (.istore_n 1, 1) := by decide +kernel
theorem dX2_useful_6 : decode cX2_useful 6 = .ok (.iconst 0, 1) := by decide +kernel
theorem dX2_useful_7 : decode cX2_useful 7 = .ok (.istore_n 2, 1) := by decide +kernel
end
section
set_option maxRecDepth 100000
theorem dX2_useful_8 : decode cX2_useful 8 = .ok (.iconst 0, 1) := by decide +kernel
theorem dX2_useful_9 : decode cX2_useful 9 = .ok (.istore_n 3, 1) := by decide +kernel
theorem dX2_useful_10 : decode cX2_useful 10 = .ok (.iload_n 3, 1) := by decide +kernel
theorem dX2_useful_11 : decode cX2_useful 11 = .ok (.aload_n 0, 1) := by decide +kernel
theorem dX2_useful_12 : decode cX2_useful 12 = .ok (.getfield 55, 3) := by decide +kernel
theorem dX2_useful_15 : decode cX2_useful 15 = .ok (.if_icmp .ge 26, 3) := by decide +kernel
theorem dX2_useful_18 : decode cX2_useful 18 = .ok (.aload_n 0, 1) := by decide +kernel
theorem dX2_useful_19 : decode cX2_useful 19 = .ok (.iload_n 3, 1) := by decide +kernel
theorem dX2_useful_20 : decode cX2_useful 20 = .ok (.invokevirtual 62, 3) := by decide +kernel
theorem dX2_useful_23 : decode cX2_useful 23 = .ok (.iload_n 1, 1) := by decide +kernel
theorem dX2_useful_24 : decode cX2_useful 24 = .ok (.if_icmp .le 9, 3) := by decide +kernel
theorem dX2_useful_27 : decode cX2_useful 27 = .ok (.iload_n 2, 1) := by decide +kernel
theorem dX2_useful_28 : decode cX2_useful 28 = .ok (.iconst 1, 1) := by decide +kernel
theorem dX2_useful_29 : decode cX2_useful 29 = .ok (.iadd, 1) := by decide +kernel
theorem dX2_useful_30 : decode cX2_useful 30 = .ok (.goto 4, 3) := by decide +kernel
theorem dX2_useful_33 : decode cX2_useful 33 = .ok (.iload_n 2, 1) := by decide +kernel
theorem dX2_useful_34 : decode cX2_useful 34 = .ok (.istore_n 2, 1) := by decide +kernel
theorem dX2_useful_35 : decode cX2_useful 35 = .ok (.iinc 3 1, 3) := by decide +kernel
theorem dX2_useful_38 : decode cX2_useful 38 = .ok (.goto (-28), 3) := by decide +kernel
theorem dX2_useful_41 : decode cX2_useful 41 = .ok (.iload_n 2, 1) := by decide +kernel
theorem dX2_useful_42 : decode cX2_useful 42 = .ok (.ireturn, 1) := by decide +kernel
end
section
set_option maxRecDepth 100000
theorem dL_law_0 : decode cL_law 0 = .ok (.new 7, 3) := by decide +kernel
theorem dL_law_3 : decode cL_law 3 = .ok (.dup, 1) := by decide +kernel
theorem dL_law_4 : decode cL_law 4 = .ok (.aload_n 0, 1) := by decide +kernel
theorem dL_law_5 : decode cL_law 5 = .ok (.iconst 0, 1) := by decide +kernel
theorem dL_law_6 : decode cL_law 6 = .ok (.invokestatic 9, 3) := by decide +kernel
theorem dL_law_9 : decode cL_law 9 = .ok (.aload_n 0, 1) := by decide +kernel
theorem dL_law_10 : decode cL_law 10 = .ok (.iconst 1, 1) := by decide +kernel
theorem dL_law_11 : decode cL_law 11 = .ok (.invokestatic 9, 3) := by decide +kernel
theorem dL_law_14 : decode cL_law 14 = .ok (.invokespecial 15, 3) := by decide +kernel
theorem dL_law_17 : decode cL_law 17 = .ok (.astore_n 1, 1) := by decide +kernel
theorem dL_law_18 : decode cL_law 18 = .ok (.new 18, 3) := by decide +kernel
theorem dL_law_21 : decode cL_law 21 = .ok (.dup, 1) := by decide +kernel
theorem dL_law_22 : decode cL_law 22 = .ok (.aload_n 0, 1) := by decide +kernel
theorem dL_law_23 : decode cL_law 23 = .ok (.iconst 0, 1) := by decide +kernel
theorem dL_law_24 : decode cL_law 24 = .ok (.invokestatic 9, 3) := by decide +kernel
theorem dL_law_27 : decode cL_law 27 = .ok (.aload_n 0, 1) := by decide +kernel
theorem dL_law_28 : decode cL_law 28 = .ok (.iconst 1, 1) := by decide +kernel
theorem dL_law_29 : decode cL_law 29 = .ok (.invokestatic 9, 3) := by decide +kernel
theorem dL_law_32 : decode cL_law 32 = .ok (.invokespecial 20, 3) := by decide +kernel
theorem dL_law_35 : decode cL_law 35 = .ok (.astore_n 2, 1) := by decide +kernel
theorem dL_law_36 : decode cL_law 36 = .ok (.iconst 2, 1) := by decide +kernel
theorem dL_law_37 : decode cL_law 37 = .ok (.istore_n 3, 1) := by decide +kernel
theorem dL_law_38 : decode cL_law 38 = .ok (.iload_n 3, 1) := by decide +kernel
theorem dL_law_39 : decode cL_law 39 = .ok (.aload_n 0, 1) := by decide +kernel
theorem dL_law_40 : decode cL_law 40 = .ok (.arraylength, 1) := by decide +kernel
theorem dL_law_41 : decode cL_law 41 = .ok (.iconst 4, 1) := by decide +kernel
theorem dL_law_42 : decode cL_law 42 = .ok (.isub, 1) := by decide +kernel
theorem dL_law_43 : decode cL_law 43 = .ok (.if_icmp .gt 420, 3) := by decide +kernel
theorem dL_law_46 : decode cL_law 46 = .ok (.aload_n 0, 1) := by decide +kernel
theorem dL_law_47 : decode cL_law 47 = .ok (.iload_n 3, 1) := by decide +kernel
theorem dL_law_48 : decode cL_law 48 = .ok (.iaload, 1) := by decide +kernel
theorem dL_law_49 : decode cL_law 49 = .ok (.bipush 31, 2) := by decide +kernel
theorem dL_law_51 : decode cL_law 51 = .ok (.iand, 1) := by decide +kernel
theorem dL_law_52 : decode cL_law 52 = .ok (.tableswitch 405 0 16 #[84, 97, 130, 173, 186, 199, 212, 235, 258, 281, 304, 327, 340, 353, 366, 379, 392], 84) := by decide +kernel
theorem dL_law_136 : decode cL_law 136 = .ok (.aload_n 1, 1) := by decide +kernel
theorem dL_law_137 : decode cL_law 137 = .ok (.invokevirtual 21, 3) := by decide +kernel
theorem dL_law_140 : decode cL_law 140 = .ok (.aload_n 2, 1) := by decide +kernel
theorem dL_law_141 : decode cL_law 141 = .ok (.invokevirtual 25, 3) := by decide +kernel
theorem dL_law_144 : decode cL_law 144 = .ok (.if_icmp .eq 313, 3) := by decide +kernel
theorem dL_law_147 : decode cL_law 147 = .ok (.iconst 0, 1) := by decide +kernel
theorem dL_law_148 : decode cL_law 148 = .ok (.ireturn, 1) := by decide +kernel
theorem dL_law_149 : decode cL_law 149 = .ok (.aload_n 1, 1) := by decide +kernel
theorem dL_law_150 : decode cL_law 150 = .ok (.aload_n 0, 1) := by decide +kernel
theorem dL_law_151 : decode cL_law 151 = .ok (.iload_n 3, 1) := by decide +kernel
theorem dL_law_152 : decode cL_law 152 = .ok (.iconst 1, 1) := by decide +kernel
theorem dL_law_153 : decode cL_law 153 = .ok (.iadd, 1) := by decide +kernel
theorem dL_law_154 : decode cL_law 154 = .ok (.iaload, 1) := by decide +kernel
theorem dL_law_155 : decode cL_law 155 = .ok (.aload_n 0, 1) := by decide +kernel
theorem dL_law_156 : decode cL_law 156 = .ok (.iload_n 3, 1) := by decide +kernel
theorem dL_law_157 : decode cL_law 157 = .ok (.iconst 2, 1) := by decide +kernel
theorem dL_law_158 : decode cL_law 158 = .ok (.iadd, 1) := by decide +kernel
theorem dL_law_159 : decode cL_law 159 = .ok (.iaload, 1) := by decide +kernel
theorem dL_law_160 : decode cL_law 160 = .ok (.invokevirtual 26, 3) := by decide +kernel
theorem dL_law_163 : decode cL_law 163 = .ok (.aload_n 2, 1) := by decide +kernel
theorem dL_law_164 : decode cL_law 164 = .ok (.aload_n 0, 1) := by decide +kernel
theorem dL_law_165 : decode cL_law 165 = .ok (.iload_n 3, 1) := by decide +kernel
theorem dL_law_166 : decode cL_law 166 = .ok (.iconst 1, 1) := by decide +kernel
theorem dL_law_167 : decode cL_law 167 = .ok (.iadd, 1) := by decide +kernel
theorem dL_law_168 : decode cL_law 168 = .ok (.iaload, 1) := by decide +kernel
theorem dL_law_169 : decode cL_law 169 = .ok (.aload_n 0, 1) := by decide +kernel
theorem dL_law_170 : decode cL_law 170 = .ok (.iload_n 3, 1) := by decide +kernel
theorem dL_law_171 : decode cL_law 171 = .ok (.iconst 2, 1) := by decide +kernel
theorem dL_law_172 : decode cL_law 172 = .ok (.iadd, 1) := by decide +kernel
theorem dL_law_173 : decode cL_law 173 = .ok (.iaload, 1) := by decide +kernel
theorem dL_law_174 : decode cL_law 174 = .ok (.invokevirtual 30, 3) := by decide +kernel
theorem dL_law_177 : decode cL_law 177 = .ok (.if_icmp .eq 280, 3) := by decide +kernel
theorem dL_law_180 : decode cL_law 180 = .ok (.iconst 0, 1) := by decide +kernel
theorem dL_law_181 : decode cL_law 181 = .ok (.ireturn, 1) := by decide +kernel
theorem dL_law_182 : decode cL_law 182 = .ok (.aload_n 1, 1) := by decide +kernel
theorem dL_law_183 : decode cL_law 183 = .ok (.aload_n 0, 1) := by decide +kernel
theorem dL_law_184 : decode cL_law 184 = .ok (.iload_n 3, 1) := by decide +kernel
theorem dL_law_185 : decode cL_law 185 = .ok (.iconst 1, 1) := by decide +kernel
theorem dL_law_186 : decode cL_law 186 = .ok (.iadd, 1) := by decide +kernel
theorem dL_law_187 : decode cL_law 187 = .ok (.iaload, 1) := by decide +kernel
theorem dL_law_188 : decode cL_law 188 = .ok (.aload_n 0, 1) := by decide +kernel
theorem dL_law_189 : decode cL_law 189 = .ok (.iload_n 3, 1) := by decide +kernel
theorem dL_law_190 : decode cL_law 190 = .ok (.iconst 2, 1) := by decide +kernel
theorem dL_law_191 : decode cL_law 191 = .ok (.iadd, 1) := by decide +kernel
theorem dL_law_192 : decode cL_law 192 = .ok (.iaload, 1) := by decide +kernel
theorem dL_law_193 : decode cL_law 193 = .ok (.aload_n 0, 1) := by decide +kernel
theorem dL_law_194 : decode cL_law 194 = .ok (.iload_n 3, 1) := by decide +kernel
theorem dL_law_195 : decode cL_law 195 = .ok (.iconst 3, 1) := by decide +kernel
theorem dL_law_196 : decode cL_law 196 = .ok (.iadd, 1) := by decide +kernel
theorem dL_law_197 : decode cL_law 197 = .ok (.iaload, 1) := by decide +kernel
theorem dL_law_198 : decode cL_law 198 = .ok (.invokevirtual 31, 3) := by decide +kernel
theorem dL_law_201 : decode cL_law 201 = .ok (.aload_n 2, 1) := by decide +kernel
theorem dL_law_202 : decode cL_law 202 = .ok (.aload_n 0, 1) := by decide +kernel
theorem dL_law_203 : decode cL_law 203 = .ok (.iload_n 3, 1) := by decide +kernel
theorem dL_law_204 : decode cL_law 204 = .ok (.iconst 1, 1) := by decide +kernel
theorem dL_law_205 : decode cL_law 205 = .ok (.iadd, 1) := by decide +kernel
theorem dL_law_206 : decode cL_law 206 = .ok (.iaload, 1) := by decide +kernel
theorem dL_law_207 : decode cL_law 207 = .ok (.aload_n 0, 1) := by decide +kernel
theorem dL_law_208 : decode cL_law 208 = .ok (.iload_n 3, 1) := by decide +kernel
theorem dL_law_209 : decode cL_law 209 = .ok (.iconst 2, 1) := by decide +kernel
theorem dL_law_210 : decode cL_law 210 = .ok (.iadd, 1) := by decide +kernel
theorem dL_law_211 : decode cL_law 211 = .ok (.iaload, 1) := by decide +kernel
theorem dL_law_212 : decode cL_law 212 = .ok (.aload_n 0, 1) := by decide +kernel
theorem dL_law_213 : decode cL_law 213 = .ok (.iload_n 3, 1) := by decide +kernel
theorem dL_law_214 : decode cL_law 214 = .ok (.iconst 3, 1) := by decide +kernel
theorem dL_law_215 : decode cL_law 215 = .ok (.iadd, 1) := by decide +kernel
theorem dL_law_216 : decode cL_law 216 = .ok (.iaload, 1) := by decide +kernel
theorem dL_law_217 : decode cL_law 217 = .ok (.invokevirtual 35, 3) := by decide +kernel
theorem dL_law_220 : decode cL_law 220 = .ok (.if_icmp .eq 237, 3) := by decide +kernel
theorem dL_law_223 : decode cL_law 223 = .ok (.iconst 0, 1) := by decide +kernel
theorem dL_law_224 : decode cL_law 224 = .ok (.ireturn, 1) := by decide +kernel
theorem dL_law_225 : decode cL_law 225 = .ok (.aload_n 1, 1) := by decide +kernel
theorem dL_law_226 : decode cL_law 226 = .ok (.invokevirtual 36, 3) := by decide +kernel
theorem dL_law_229 : decode cL_law 229 = .ok (.aload_n 2, 1) := by decide +kernel
theorem dL_law_230 : decode cL_law 230 = .ok (.invokevirtual 39, 3) := by decide +kernel
theorem dL_law_233 : decode cL_law 233 = .ok (.if_icmp .eq 224, 3) := by decide +kernel
theorem dL_law_236 : decode cL_law 236 = .ok (.iconst 0, 1) := by decide +kernel
theorem dL_law_237 : decode cL_law 237 = .ok (.ireturn, 1) := by decide +kernel
theorem dL_law_238 : decode cL_law 238 = .ok (.aload_n 1, 1) := by decide +kernel
theorem dL_law_239 : decode cL_law 239 = .ok (.invokevirtual 40, 3) := by decide +kernel
theorem dL_law_242 : decode cL_law 242 = .ok (.aload_n 2, 1) := by decide +kernel
theorem dL_law_243 : decode cL_law 243 = .ok (.invokevirtual 43, 3) := by decide +kernel
theorem dL_law_246 : decode cL_law 246 = .ok (.if_icmp .eq 211, 3) := by decide +kernel
theorem dL_law_249 : decode cL_law 249 = .ok (.iconst 0, 1) := by decide +kernel
theorem dL_law_250 : decode cL_law 250 = .ok (.ireturn, 1) := by decide +kernel
theorem dL_law_251 : decode cL_law 251 = .ok (.aload_n 1, 1) := by decide +kernel
theorem dL_law_252 : decode cL_law 252 = .ok (.invokevirtual 44, 3) := by decide +kernel
theorem dL_law_255 : decode cL_law 255 = .ok (.aload_n 2, 1) := by decide +kernel
theorem dL_law_256 : decode cL_law 256 = .ok (.invokevirtual 47, 3) := by decide +kernel
theorem dL_law_259 : decode cL_law 259 = .ok (.if_icmp .eq 198, 3) := by decide +kernel
theorem dL_law_262 : decode cL_law 262 = .ok (.iconst 0, 1) := by decide +kernel
theorem dL_law_263 : decode cL_law 263 = .ok (.ireturn, 1) := by decide +kernel
theorem dL_law_264 : decode cL_law 264 = .ok (.aload_n 1, 1) := by decide +kernel
theorem dL_law_265 : decode cL_law 265 = .ok (.aload_n 0, 1) := by decide +kernel
theorem dL_law_266 : decode cL_law 266 = .ok (.iload_n 3, 1) := by decide +kernel
theorem dL_law_267 : decode cL_law 267 = .ok (.iconst 1, 1) := by decide +kernel
theorem dL_law_268 : decode cL_law 268 = .ok (.iadd, 1) := by decide +kernel
theorem dL_law_269 : decode cL_law 269 = .ok (.iaload, 1) := by decide +kernel
theorem dL_law_270 : decode cL_law 270 = .ok (.invokevirtual 48, 3) := by decide +kernel
theorem dL_law_273 : decode cL_law 273 = .ok (.aload_n 2, 1) := by decide +kernel
theorem dL_law_274 : decode cL_law 274 = .ok (.aload_n 0, 1) := by decide +kernel
theorem dL_law_275 : decode cL_law 275 = .ok (.iload_n 3, 1) := by decide +kernel
theorem dL_law_276 : decode cL_law 276 = .ok (.iconst 1, 1) := by decide +kernel
theorem dL_law_277 : decode cL_law 277 = .ok (.iadd, 1) := by decide +kernel
theorem dL_law_278 : decode cL_law 278 = .ok (.iaload, 1) := by decide +kernel
theorem dL_law_279 : decode cL_law 279 = .ok (.invokevirtual 52, 3) := by decide +kernel
theorem dL_law_282 : decode cL_law 282 = .ok (.if_icmp .eq 175, 3) := by decide +kernel
theorem dL_law_285 : decode cL_law 285 = .ok (.iconst 0, 1) := by decide +kernel
theorem dL_law_286 : decode cL_law 286 = .ok (.ireturn, 1) := by decide +kernel
theorem dL_law_287 : decode cL_law 287 = .ok (.aload_n 1, 1) := by decide +kernel
theorem dL_law_288 : decode cL_law 288 = .ok (.aload_n 0, 1) := by decide +kernel
theorem dL_law_289 : decode cL_law 289 = .ok (.iload_n 3, 1) := by decide +kernel
theorem dL_law_290 : decode cL_law 290 = .ok (.iconst 1, 1) := by decide +kernel
theorem dL_law_291 : decode cL_law 291 = .ok (.iadd, 1) := by decide +kernel
theorem dL_law_292 : decode cL_law 292 = .ok (.iaload, 1) := by decide +kernel
theorem dL_law_293 : decode cL_law 293 = .ok (.invokevirtual 53, 3) := by decide +kernel
theorem dL_law_296 : decode cL_law 296 = .ok (.aload_n 2, 1) := by decide +kernel
theorem dL_law_297 : decode cL_law 297 = .ok (.aload_n 0, 1) := by decide +kernel
theorem dL_law_298 : decode cL_law 298 = .ok (.iload_n 3, 1) := by decide +kernel
theorem dL_law_299 : decode cL_law 299 = .ok (.iconst 1, 1) := by decide +kernel
theorem dL_law_300 : decode cL_law 300 = .ok (.iadd, 1) := by decide +kernel
theorem dL_law_301 : decode cL_law 301 = .ok (.iaload, 1) := by decide +kernel
theorem dL_law_302 : decode cL_law 302 = .ok (.invokevirtual 57, 3) := by decide +kernel
theorem dL_law_305 : decode cL_law 305 = .ok (.if_icmp .eq 152, 3) := by decide +kernel
theorem dL_law_308 : decode cL_law 308 = .ok (.iconst 0, 1) := by decide +kernel
theorem dL_law_309 : decode cL_law 309 = .ok (.ireturn, 1) := by decide +kernel
theorem dL_law_310 : decode cL_law 310 = .ok (.aload_n 1, 1) := by decide +kernel
theorem dL_law_311 : decode cL_law 311 = .ok (.aload_n 0, 1) := by decide +kernel
theorem dL_law_312 : decode cL_law 312 = .ok (.iload_n 3, 1) := by decide +kernel
theorem dL_law_313 : decode cL_law 313 = .ok (.iconst 1, 1) := by decide +kernel
theorem dL_law_314 : decode cL_law 314 = .ok (.iadd, 1) := by decide +kernel
theorem dL_law_315 : decode cL_law 315 = .ok (.iaload, 1) := by decide +kernel
theorem dL_law_316 : decode cL_law 316 = .ok (.invokevirtual 58, 3) := by decide +kernel
theorem dL_law_319 : decode cL_law 319 = .ok (.aload_n 2, 1) := by decide +kernel
theorem dL_law_320 : decode cL_law 320 = .ok (.aload_n 0, 1) := by decide +kernel
theorem dL_law_321 : decode cL_law 321 = .ok (.iload_n 3, 1) := by decide +kernel
theorem dL_law_322 : decode cL_law 322 = .ok (.iconst 1, 1) := by decide +kernel
theorem dL_law_323 : decode cL_law 323 = .ok (.iadd, 1) := by decide +kernel
theorem dL_law_324 : decode cL_law 324 = .ok (.iaload, 1) := by decide +kernel
theorem dL_law_325 : decode cL_law 325 = .ok (.invokevirtual 61, 3) := by decide +kernel
theorem dL_law_328 : decode cL_law 328 = .ok (.if_icmp .eq 129, 3) := by decide +kernel
theorem dL_law_331 : decode cL_law 331 = .ok (.iconst 0, 1) := by decide +kernel
theorem dL_law_332 : decode cL_law 332 = .ok (.ireturn, 1) := by decide +kernel
theorem dL_law_333 : decode cL_law 333 = .ok (.aload_n 1, 1) := by decide +kernel
theorem dL_law_334 : decode cL_law 334 = .ok (.aload_n 0, 1) := by decide +kernel
theorem dL_law_335 : decode cL_law 335 = .ok (.iload_n 3, 1) := by decide +kernel
theorem dL_law_336 : decode cL_law 336 = .ok (.iconst 1, 1) := by decide +kernel
theorem dL_law_337 : decode cL_law 337 = .ok (.iadd, 1) := by decide +kernel
theorem dL_law_338 : decode cL_law 338 = .ok (.iaload, 1) := by decide +kernel
theorem dL_law_339 : decode cL_law 339 = .ok (.invokevirtual 62, 3) := by decide +kernel
theorem dL_law_342 : decode cL_law 342 = .ok (.aload_n 2, 1) := by decide +kernel
theorem dL_law_343 : decode cL_law 343 = .ok (.aload_n 0, 1) := by decide +kernel
theorem dL_law_344 : decode cL_law 344 = .ok (.iload_n 3, 1) := by decide +kernel
theorem dL_law_345 : decode cL_law 345 = .ok (.iconst 1, 1) := by decide +kernel
theorem dL_law_346 : decode cL_law 346 = .ok (.iadd, 1) := by decide +kernel
theorem dL_law_347 : decode cL_law 347 = .ok (.iaload, 1) := by decide +kernel
theorem dL_law_348 : decode cL_law 348 = .ok (.invokevirtual 65, 3) := by decide +kernel
theorem dL_law_351 : decode cL_law 351 = .ok (.if_icmp .eq 106, 3) := by decide +kernel
theorem dL_law_354 : decode cL_law 354 = .ok (.iconst 0, 1) := by decide +kernel
theorem dL_law_355 : decode cL_law 355 = .ok (.ireturn, 1) := by decide +kernel
theorem dL_law_356 : decode cL_law 356 = .ok (.aload_n 1, 1) := by decide +kernel
theorem dL_law_357 : decode cL_law 357 = .ok (.aload_n 0, 1) := by decide +kernel
theorem dL_law_358 : decode cL_law 358 = .ok (.iload_n 3, 1) := by decide +kernel
theorem dL_law_359 : decode cL_law 359 = .ok (.iconst 1, 1) := by decide +kernel
theorem dL_law_360 : decode cL_law 360 = .ok (.iadd, 1) := by decide +kernel
theorem dL_law_361 : decode cL_law 361 = .ok (.iaload, 1) := by decide +kernel
theorem dL_law_362 : decode cL_law 362 = .ok (.invokevirtual 66, 3) := by decide +kernel
theorem dL_law_365 : decode cL_law 365 = .ok (.aload_n 2, 1) := by decide +kernel
theorem dL_law_366 : decode cL_law 366 = .ok (.aload_n 0, 1) := by decide +kernel
theorem dL_law_367 : decode cL_law 367 = .ok (.iload_n 3, 1) := by decide +kernel
theorem dL_law_368 : decode cL_law 368 = .ok (.iconst 1, 1) := by decide +kernel
theorem dL_law_369 : decode cL_law 369 = .ok (.iadd, 1) := by decide +kernel
theorem dL_law_370 : decode cL_law 370 = .ok (.iaload, 1) := by decide +kernel
theorem dL_law_371 : decode cL_law 371 = .ok (.invokevirtual 69, 3) := by decide +kernel
theorem dL_law_374 : decode cL_law 374 = .ok (.if_icmp .eq 83, 3) := by decide +kernel
theorem dL_law_377 : decode cL_law 377 = .ok (.iconst 0, 1) := by decide +kernel
theorem dL_law_378 : decode cL_law 378 = .ok (.ireturn, 1) := by decide +kernel
theorem dL_law_379 : decode cL_law 379 = .ok (.aload_n 1, 1) := by decide +kernel
theorem dL_law_380 : decode cL_law 380 = .ok (.invokevirtual 70, 3) := by decide +kernel
theorem dL_law_383 : decode cL_law 383 = .ok (.aload_n 2, 1) := by decide +kernel
theorem dL_law_384 : decode cL_law 384 = .ok (.invokevirtual 73, 3) := by decide +kernel
theorem dL_law_387 : decode cL_law 387 = .ok (.if_icmp .eq 70, 3) := by decide +kernel
theorem dL_law_390 : decode cL_law 390 = .ok (.iconst 0, 1) := by decide +kernel
theorem dL_law_391 : decode cL_law 391 = .ok (.ireturn, 1) := by decide +kernel
theorem dL_law_392 : decode cL_law 392 = .ok (.aload_n 1, 1) := by decide +kernel
theorem dL_law_393 : decode cL_law 393 = .ok (.invokevirtual 74, 3) := by decide +kernel
theorem dL_law_396 : decode cL_law 396 = .ok (.aload_n 2, 1) := by decide +kernel
theorem dL_law_397 : decode cL_law 397 = .ok (.invokevirtual 77, 3) := by decide +kernel
theorem dL_law_400 : decode cL_law 400 = .ok (.if_icmp .eq 57, 3) := by decide +kernel
theorem dL_law_403 : decode cL_law 403 = .ok (.iconst 0, 1) := by decide +kernel
theorem dL_law_404 : decode cL_law 404 = .ok (.ireturn, 1) := by decide +kernel
theorem dL_law_405 : decode cL_law 405 = .ok (.aload_n 1, 1) := by decide +kernel
theorem dL_law_406 : decode cL_law 406 = .ok (.invokevirtual 78, 3) := by decide +kernel
theorem dL_law_409 : decode cL_law 409 = .ok (.aload_n 2, 1) := by decide +kernel
theorem dL_law_410 : decode cL_law 410 = .ok (.invokevirtual 81, 3) := by decide +kernel
theorem dL_law_413 : decode cL_law 413 = .ok (.if_icmp .eq 44, 3) := by decide +kernel
theorem dL_law_416 : decode cL_law 416 = .ok (.iconst 0, 1) := by decide +kernel
theorem dL_law_417 : decode cL_law 417 = .ok (.ireturn, 1) := by decide +kernel
theorem dL_law_418 : decode cL_law 418 = .ok (.aload_n 1, 1) := by decide +kernel
theorem dL_law_419 : decode cL_law 419 = .ok (.invokevirtual 82, 3) := by decide +kernel
theorem dL_law_422 : decode cL_law 422 = .ok (.aload_n 2, 1) := by decide +kernel
theorem dL_law_423 : decode cL_law 423 = .ok (.invokevirtual 85, 3) := by decide +kernel
theorem dL_law_426 : decode cL_law 426 = .ok (.if_icmp .eq 31, 3) := by decide +kernel
theorem dL_law_429 : decode cL_law 429 = .ok (.iconst 0, 1) := by decide +kernel
theorem dL_law_430 : decode cL_law 430 = .ok (.ireturn, 1) := by decide +kernel
theorem dL_law_431 : decode cL_law 431 = .ok (.aload_n 1, 1) := by decide +kernel
theorem dL_law_432 : decode cL_law 432 = .ok (.invokevirtual 86, 3) := by decide +kernel
theorem dL_law_435 : decode cL_law 435 = .ok (.aload_n 2, 1) := by decide +kernel
theorem dL_law_436 : decode cL_law 436 = .ok (.invokevirtual 89, 3) := by decide +kernel
theorem dL_law_439 : decode cL_law 439 = .ok (.if_icmp .eq 18, 3) := by decide +kernel
theorem dL_law_442 : decode cL_law 442 = .ok (.iconst 0, 1) := by decide +kernel
theorem dL_law_443 : decode cL_law 443 = .ok (.ireturn, 1) := by decide +kernel
theorem dL_law_444 : decode cL_law 444 = .ok (.aload_n 1, 1) := by decide +kernel
theorem dL_law_445 : decode cL_law 445 = .ok (.invokevirtual 90, 3) := by decide +kernel
theorem dL_law_448 : decode cL_law 448 = .ok (.aload_n 2, 1) := by decide +kernel
theorem dL_law_449 : decode cL_law 449 = .ok (.invokevirtual 93, 3) := by decide +kernel
theorem dL_law_452 : decode cL_law 452 = .ok (.if_icmp .eq 5, 3) := by decide +kernel
theorem dL_law_455 : decode cL_law 455 = .ok (.iconst 0, 1) := by decide +kernel
theorem dL_law_456 : decode cL_law 456 = .ok (.ireturn, 1) := by decide +kernel
theorem dL_law_457 : decode cL_law 457 = .ok (.iinc 3 4, 3) := by decide +kernel
theorem dL_law_460 : decode cL_law 460 = .ok (.goto (-422), 3) := by decide +kernel
theorem dL_law_463 : decode cL_law 463 = .ok (.iconst 1, 1) := by decide +kernel
theorem dL_law_464 : decode cL_law 464 = .ok (.ireturn, 1) := by decide +kernel
theorem dX0_cell_0 : decode cX0_cell 0 = .ok (.iload_n 1, 1) := by decide +kernel
theorem dX0_cell_1 : decode cX0_cell 1 = .ok (.aload_n 0, 1) := by decide +kernel
theorem dX0_cell_2 : decode cX0_cell 2 = .ok (.arraylength, 1) := by decide +kernel
theorem dX0_cell_3 : decode cX0_cell 3 = .ok (.if_icmp .ge 9, 3) := by decide +kernel
theorem dX0_cell_6 : decode cX0_cell 6 = .ok (.aload_n 0, 1) := by decide +kernel
theorem dX0_cell_7 : decode cX0_cell 7 = .ok (.iload_n 1, 1) := by decide +kernel
theorem dX0_cell_8 : decode cX0_cell 8 = .ok (.iaload, 1) := by decide +kernel
theorem dX0_cell_9 : decode cX0_cell 9 = .ok (.goto 4, 3) := by decide +kernel
theorem dX0_cell_12 : decode cX0_cell 12 = .ok (.iconst 0, 1) := by decide +kernel
theorem dX0_cell_13 : decode cX0_cell 13 = .ok (.ireturn, 1) := by decide +kernel
end
section
set_option maxRecDepth 100000
abbrev vwCl : List vw_C := [(RX1, TX1, 18), (RX2, TX2, 11)]
/-- the world of one object: its own cell, then its arrays -/
def wX (h : Nat) (a : Nat → Nat) (d : ClassId) (f : Nat → Int32) (r : Nat → Nat → Int32) : va_W := [(h, .inr (0, [.int (f 0), .int (f 1), .int (f 2), .ref (a 3), .ref (a 4), .int (f 5), .ref (a 6), .ref (a 7), .ref (a 8), .ref (a 9), .int (f 10), .int (f 11), .int (f 12), .int (f 13), .ref (a 14), .ref (a 15), .ref (a 16), .ref (a 17)])), (a 3, .inl (d, 324, .inl (r 3))), (a 4, .inl (d, 243, .inl (r 4))), (a 6, .inl (d, 8, .inl (r 6))), (a 7, .inl (d, 8, .inl (r 7))), (a 8, .inl (d, 81, .inl (r 8))), (a 9, .inl (d, 45, .inl (r 9))), (a 14, .inl (d, 8, .inl (r 14))), (a 15, .inl (d, 648, .inl (r 15))), (a 16, .inl (d, 256, .inl (r 16))), (a 17, .inl (d, 45, .inl (r 17)))]
/-- the world of one object: its own cell, then its arrays -/
def wM (h : Nat) (a : Nat → Nat) (d : ClassId) (f : Nat → Int32) (r : Nat → Nat → Int32) : va_W := [(h, .inr (1, [.int (f 0), .int (f 1), .int (f 2), .ref (a 3), .ref (a 4), .int (f 5), .ref (a 6), .int (f 7), .ref (a 8), .ref (a 9), .ref (a 10)])), (a 3, .inl (d, 8, .inl (r 3))), (a 4, .inl (d, 8, .inl (r 4))), (a 6, .inl (d, 8, .inl (r 6))), (a 8, .inl (d, 256, .inl (r 8))), (a 9, .inl (d, 60, .inl (r 9))), (a 10, .inl (d, 6561, .inl (r 10)))]
abbrev sW : Type := Nat → (Nat → Nat) → ClassId → (Nat → Int32) → (Nat → Nat → Int32) → va_W
abbrev sT : Type := (Nat → Int32) × (Nat → Nat → Int32)
def iG (w : sW) (D : va_G) (d : ClassId) (A : Nat → Prop) (H0 : Heap) (h : Nat) (a : Nat → Nat) (f : Nat → Int32) (r : Nat → Nat → Int32) (H : Heap) (locs : List Loc) : Prop := va_P D vwCl (w h a d f r) H ∧ va_D A (w h a d f r) ∧ va_S A H0 H locs
def kC (p : Program) (s : State) (m : MethodId) (args : Array Value) (meth : Method) (c : Code) (cc : ByteArray) (nL : Nat) (own : String) (D : va_G) (d : ClassId) (A : Nat → Prop) : Prop := p.tables.exec = Jvm.exec ∧ c.code = cc ∧ c.maxLocals = nL ∧ s.vm.findClass own = some m.cls ∧ (∀ w ∈ lw_all, w.before args s = true) ∧ va_K D vwCl [(d, .int)] s ∧ meth.locks = false ∧ ∀ q, s.heap.size ≤ q → A q
def pG (w : sW) (D : va_G) (d : ClassId) (h : Nat) (a : Nat → Nat) (f : Nat → Int32) (r : Nat → Nat → Int32) (As : List Value) (sz : Nat) : Array Value → State → Prop := va_Pc (.ref h :: As) (fun U => U.heap.size = sz ∧ va_P D vwCl (w h a d f r) U.heap ∧ va_K D vwCl [(d, .int)] U ∧ va_D (fun _ => True) (w h a d f r))
def bG (w : sW) (D : va_G) (d : ClassId) (h : Nat) (a : Nat → Nat) (A : Nat → Prop) : sT → State → Prop := fun u t => va_P D vwCl (w h a d u.1 u.2) t.heap ∧ va_D A (w h a d u.1 u.2)
/-- a contract of a method that answers an int (or a boolean): any start of the world f r; its answer and the new world are as post says -/
def mG (l : Launch) (w : sW) (y : MethodName) (cc : ByteArray) (nL : Nat) (ty : FieldType) (rm : Room) (D : va_G) (d : ClassId) (h : Nat) (a : Nat → Nat) (f : Nat → Int32) (r : Nat → Nat → Int32) (As : List Value) (post : Int32 → (Nat → Int32) → (Nat → Nat → Int32) → Prop) : Prop :=
  ∀ sz, Met l y (ws_ y cc nL (some ty)) rm (pG w D d h a f r As sz) (va_Qi (fun v (u : sT) => post v u.1 u.2) (bG w D d h a (va_A (w h a d f r) sz)) (va_A (w h a d f r) sz)) 0 0 (va_A (w h a d f r) sz)
def mGv (l : Launch) (w : sW) (y : MethodName) (cc : ByteArray) (nL : Nat) (rm : Room) (D : va_G) (d : ClassId) (h : Nat) (a : Nat → Nat) (f : Nat → Int32) (r : Nat → Nat → Int32) (As : List Value) (post : (Nat → Int32) → (Nat → Nat → Int32) → Prop) : Prop :=
  ∀ sz, Met l y (ws_ y cc nL none) rm (pG w D d h a f r As sz) (va_Qv (fun (u : sT) => post u.1 u.2) (bG w D d h a (va_A (w h a d f r) sz)) (va_A (w h a d f r) sz)) 0 0 (va_A (w h a d f r) sz)
theorem mG_start {l : Launch} {w : sW} {y : MethodName} {cc : ByteArray} {nL : Nat} {ty : FieldType} {rm : Room} {D : va_G} {d : ClassId} {h : Nat} {a : Nat → Nat} {f : Nat → Int32} {r : Nat → Nat → Int32} {As : List Value} {post : Int32 → (Nat → Int32) → (Nat → Nat → Int32) → Prop} (hy : plainName y.cls = true) (hlen : (lg_sl (.ref h :: As)).length ≤ nL)
    (body : ∀ (p : Program) (e : Env) (s : State) (m : MethodId) (args : Array Value) (below : List Frame) (meth : Method) (c : Code) (A : Nat → Prop) (Q : State → Prop) (ls : Array Slot), kC p s m args meth c cc nL y.cls D d A → iG w D d A s.heap h a f r s.heap [] → lv_has ls nL (lv_args 0 (.ref h :: As)) →
      (∀ (v : Int32) (f' : Nat → Int32) (r' : Nat → Nat → Int32) (H : Heap) (locs : List Loc) (pc : Nat) (ls : Array Slot), decode cc pc = .ok (.ireturn, 1) → narrow ty (.int v) = .int v → iG w D d A s.heap h a f' r' H locs → post v f' r' → W p l e rm s m args below meth c H locs 0 0 Q (F0 m pc ls [.int v])) →
      W p l e rm s m args below meth c s.heap [] 0 0 Q (F0 m 0 ls [])) : mG l w y cc nL ty rm D d h a f r As post := by
  intro sz
  refine Met.ofW (cc := cc) (maxL := nL) (ret := some ty) hy rfl ?_
  intro p e s m args below meth c s₁ B hml hv
  obtain ⟨rfl, hsz, hP, hK, hD0⟩ := hv
  have hts := atoms_spec (ws := ws_ y cc nL (some ty)) B.pre
  have hts : ∀ w ∈ lw_all, w.before _ s = true := fun w h => hts w (List.mem_cons_of_mem _ h)
  have hown : s.vm.findClass y.cls = some m.cls := findClass_of_methodNamed B.named
  subst hsz
  have hD := hD0.self (sz := s.heap.size)
  have hl := lv_entry (.ref h :: As) (n := nL) hlen
  rw [lg_entry_eq]
  refine body p e s m _ below meth c (va_A (w h a d f r) s.heap.size) (MQ below _ _ s 0 0 _) _ ⟨B.exec, B.bytes, hml, hown, hts, hK, B.notSynchronized, fun q h => Or.inr h⟩ ⟨hP, hD, va_S.rf⟩ hl (fun v f' r' H locs pc ls hdg hn I hp => ?_)
  exact W.zret (v := v) B.exec B.bytes B.returns hn (fun t ht hW => ⟨⟨v, (f', r'), rfl, hp, by rw [ht]; exact I.1, I.2.1⟩, I.2.2.F ht⟩) I.2.2.2.2 hdg B.notSynchronized
theorem mGv_start {l : Launch} {w : sW} {y : MethodName} {cc : ByteArray} {nL : Nat} {rm : Room} {D : va_G} {d : ClassId} {h : Nat} {a : Nat → Nat} {f : Nat → Int32} {r : Nat → Nat → Int32} {As : List Value} {post : (Nat → Int32) → (Nat → Nat → Int32) → Prop} (hy : plainName y.cls = true) (hlen : (lg_sl (.ref h :: As)).length ≤ nL)
    (body : ∀ (p : Program) (e : Env) (s : State) (m : MethodId) (args : Array Value) (below : List Frame) (meth : Method) (c : Code) (A : Nat → Prop) (Q : State → Prop) (ls : Array Slot), kC p s m args meth c cc nL y.cls D d A → iG w D d A s.heap h a f r s.heap [] → lv_has ls nL (lv_args 0 (.ref h :: As)) →
      (∀ (f' : Nat → Int32) (r' : Nat → Nat → Int32) (H : Heap) (locs : List Loc) (pc : Nat) (ls : Array Slot), decode cc pc = .ok (.return_, 1) → iG w D d A s.heap h a f' r' H locs → post f' r' → W p l e rm s m args below meth c H locs 0 0 Q (F0 m pc ls [])) →
      W p l e rm s m args below meth c s.heap [] 0 0 Q (F0 m 0 ls [])) : mGv l w y cc nL rm D d h a f r As post := by
  intro sz
  refine Met.ofW (cc := cc) (maxL := nL) (ret := none) hy rfl ?_
  intro p e s m args below meth c s₁ B hml hv
  obtain ⟨rfl, hsz, hP, hK, hD0⟩ := hv
  have hts := atoms_spec (ws := ws_ y cc nL none) B.pre
  have hts : ∀ w ∈ lw_all, w.before _ s = true := fun w h => hts w (List.mem_cons_of_mem _ h)
  have hown : s.vm.findClass y.cls = some m.cls := findClass_of_methodNamed B.named
  subst hsz
  have hD := hD0.self (sz := s.heap.size)
  have hl := lv_entry (.ref h :: As) (n := nL) hlen
  rw [lg_entry_eq]
  refine body p e s m _ below meth c (va_A (w h a d f r) s.heap.size) (MQ below _ _ s 0 0 _) _ ⟨B.exec, B.bytes, hml, hown, hts, hK, B.notSynchronized, fun q h => Or.inr h⟩ ⟨hP, hD, va_S.rf⟩ hl (fun f' r' H locs pc ls hdg I hp => ?_)
  exact W.vret B.exec B.bytes B.returns (fun t ht hW => ⟨⟨(f', r'), rfl, hp, by rw [ht]; exact I.1, I.2.1⟩, I.2.2.F ht⟩) I.2.2.2.2 hdg B.notSynchronized
/-- a contract's post may be weakened -/
theorem mG.imp {l : Launch} {w : sW} {y : MethodName} {cc : ByteArray} {nL : Nat} {ty : FieldType} {rm : Room} {D : va_G} {d : ClassId} {h : Nat} {a : Nat → Nat} {f : Nat → Int32} {r : Nat → Nat → Int32} {As : List Value} {post : Int32 → (Nat → Int32) → (Nat → Nat → Int32) → Prop} (X : mG l w y cc nL ty rm D d h a f r As post) : mG l w y cc nL ty rm D d h a f r As post := X
section ROWS
variable {p : Program} {l : Launch} {e : Env} {R : Room} {s : State} {m : MethodId} {args : Array Value} {below : List Frame} {meth : Method} {c : Code} {H : Heap} {locs : List Loc} {cells slots : Nat} {Q : State → Prop}
variable {cc : ByteArray} {pc nL : Nat} {ls : Array Slot} {rest : List Value} {D : va_G} {d : ClassId} {A : Nat → Prop} {h : Nat} {a : Nat → Nat} {f : Nat → Int32} {r : Nat → Nat → Int32} {own : String} {w : sW}
theorem iG_free (C : kC p s m args meth c cc nL own D d A) (I : iG w D d A s.heap h a f r H locs) : ∀ q, va_A (w h a d f r) H.size q → A q := by
  intro q hq
  rcases hq with ⟨k, e, hk⟩ | hq
  · exact I.2.1.2 k _ hk
  · exact C.2.2.2.2.2.2.2 q (Nat.le_trans I.2.2.1 hq)
theorem pG_pre {As : List Value} (C : kC p s m args meth c cc nL own D d A) (I : iG w D d A s.heap h a f r H locs) {ci : Nat} {q : vw_C} (hw : ∃ fs, (w h a d f r)[0]? = some (h, .inr (ci, fs))) (hci : vwCl[ci]? = some q) : PreV s H q.1 h (pG w D d h a f r As H.size) As := by
  obtain ⟨fs, hw⟩ := hw
  refine ⟨fun a U g mk q => ?_, va_recv C.2.2.2.2.2.1 I.1 (ci := ci) (q0 := 0) hci hw, fun U hU hW => ?_⟩
  · obtain ⟨q0, q1, qP, qK, qD⟩ := q
    exact ⟨q0, q1, qP, va_K.moved (u := U) (U := U.calling g mk a) (Vm.Alike.refl U.vm) qK, qD⟩
  · exact ⟨rfl, by rw [hU], by rw [hU]; exact I.1, va_K.moved hW.alike C.2.2.2.2.2.1, I.2.1.weaken (fun _ _ _ _ => trivial)⟩
theorem mG_call {l : Launch} {y : MethodName} {cb : ByteArray} {nB : Nat} {ty : FieldType} {rm : Room} {As : List Value} {post : Int32 → (Nat → Int32) → (Nat → Nat → Int32) → Prop} {ci n idx : Nat} {q : vw_C}
    (C : kC p s m args meth c cc nL own D d A) (I : iG w D d A s.heap h a f r H locs) (hM : mG l w y cb nB ty rm D d h a f r As post) (hw : ∃ fs, (w h a d f r)[0]? = some (h, .inr (ci, fs))) (hci : vwCl[ci]? = some q)
    (hG : GoodIn lw_all (wsV own idx q.1 y (ws_ y cb nB (some ty)))) (hd : y.cls = q.1 ∧ y.cls ≠ "java/lang/invoke/MethodHandle" ∧ y.cls ≠ "java/lang/invoke/VarHandle" ∧ (parseMethodDescriptor y.desc).map (fun d => d.parameters.length) = some n)
    (hR : rm.frames + 1 ≤ R.frames ∧ 8 + (nB + 11) + rm.locals ≤ R.locals) (hrm : rm.cells = 0 ∧ rm.slots = 0) (hn : As.length = n) (hsz : ls.size = nL) (hro : (rest.map fun v => v.category).sum ≤ 8) (hdg : decode cc pc = .ok (.invokevirtual idx, 3)) (hcs : cells ≤ R.cells ∧ slots ≤ R.slots) {st : List Value} (hst : st = As.reverse ++ .ref h :: rest)
    (kk : ∀ (v : Int32) (f' : Nat → Int32) (r' : Nat → Nat → Int32) (H1 : Heap) (locs1 : List Loc), post v f' r' → iG w D d A s.heap h a f' r' H1 locs1 → W p l e R s m args below meth c H1 locs1 cells slots Q (F0 m (pc + 3) ls (.int v :: rest))) :
    W p l e R s m args below meth c H locs cells slots Q (F0 m pc ls st) := by
  subst hst
  have hFc := iG_free C I
  refine va_calli (va_runV (As := As) (rest := rest) ⟨C.1, C.2.1, C.2.2.1, C.2.2.2.1, C.2.2.2.2.1⟩ (hM H.size) (cwV n C.2.2.2.2.1 hG rfl hrm.1 hrm.2 hd hR) (pG_pre C I hw hci) rfl hn hsz rfl (lv_room hro) hdg hcs) I.2.2 (fun q _ h => hFc q h) hFc (fun v u t H1 locs ht hvm hp hB hz1 hk1 hS => ?_)
  obtain ⟨f', r'⟩ := u
  exact kk v f' r' H1 locs hp ⟨by rw [← ht]; exact hB.1, hB.2.weaken (fun k q _ h => hFc q.1 h), hS⟩
theorem mGv_call {l : Launch} {y : MethodName} {cb : ByteArray} {nB : Nat} {rm : Room} {As : List Value} {post : (Nat → Int32) → (Nat → Nat → Int32) → Prop} {ci n idx : Nat} {q : vw_C}
    (C : kC p s m args meth c cc nL own D d A) (I : iG w D d A s.heap h a f r H locs) (hM : mGv l w y cb nB rm D d h a f r As post) (hw : ∃ fs, (w h a d f r)[0]? = some (h, .inr (ci, fs))) (hci : vwCl[ci]? = some q)
    (hG : GoodIn lw_all (wsV own idx q.1 y (ws_ y cb nB none))) (hd : y.cls = q.1 ∧ y.cls ≠ "java/lang/invoke/MethodHandle" ∧ y.cls ≠ "java/lang/invoke/VarHandle" ∧ (parseMethodDescriptor y.desc).map (fun d => d.parameters.length) = some n)
    (hR : rm.frames + 1 ≤ R.frames ∧ 8 + (nB + 11) + rm.locals ≤ R.locals) (hrm : rm.cells = 0 ∧ rm.slots = 0) (hn : As.length = n) (hsz : ls.size = nL) (hro : (rest.map fun v => v.category).sum ≤ 8) (hdg : decode cc pc = .ok (.invokevirtual idx, 3)) (hcs : cells ≤ R.cells ∧ slots ≤ R.slots) {st : List Value} (hst : st = As.reverse ++ .ref h :: rest)
    (kk : ∀ (f' : Nat → Int32) (r' : Nat → Nat → Int32) (H1 : Heap) (locs1 : List Loc), post f' r' → iG w D d A s.heap h a f' r' H1 locs1 → W p l e R s m args below meth c H1 locs1 cells slots Q (F0 m (pc + 3) ls rest)) :
    W p l e R s m args below meth c H locs cells slots Q (F0 m pc ls st) := by
  subst hst
  have hFc := iG_free C I
  refine va_callv (va_runV (As := As) (rest := rest) ⟨C.1, C.2.1, C.2.2.1, C.2.2.2.1, C.2.2.2.2.1⟩ (hM H.size) (cwV n C.2.2.2.2.1 hG rfl hrm.1 hrm.2 hd hR) (pG_pre C I hw hci) rfl hn hsz rfl (lv_room hro) hdg hcs) I.2.2 (fun q _ h => hFc q h) hFc (fun u t H1 locs ht hvm hp hB hz1 hk1 hS => ?_)
  obtain ⟨f', r'⟩ := u
  exact kk f' r' H1 locs hp ⟨by rw [← ht]; exact hB.1, hB.2.weaken (fun k q _ h => hFc q.1 h), hS⟩
theorem gX_0 (C : kC p s m args meth c cc nL RX1 D d A) (I : iG wX D d A s.heap h a f r H locs) {v : Int32} (hv : f 0 = v) (hdg : decode cc pc = .ok (.getfield 40, 3)) (kk : W p l e R s m args below meth c H locs cells slots Q (F0 m (pc + 3) ls (.int v :: rest))) : W p l e R s m args below meth c H locs cells slots Q (F0 m pc ls (.ref h :: rest)) := by
  subst hv
  exact va_get (D := D) (ci := 0) (v := .int (f 0)) (C := RX1) (T := TX1) (N := 18) C.1 C.2.1 C.2.2.2.2.1 in_X1 C.2.2.2.1 C.2.2.2.2.2.1 I.1 0 rfl rfl 0 (by decide) (C.2.2.2.2.1 _ q38) (fun _ h9 => h9) rfl hdg kk
theorem pX_0 (C : kC p s m args meth c cc nL RX1 D d A) (I : iG wX D d A s.heap h a f r H locs) {v : Int32} (hin : meth.name = "<init>") (hdg : decode cc pc = .ok (.putfield 40, 3)) (kk : ∀ (H1 : Heap) (locs1 : List Loc) (f1 : Nat → Int32), f1 0 = v → (∀ k, k ≠ 0 → f1 k = f k) → iG wX D d A s.heap h a f1 r H1 locs1 → W p l e R s m args below meth c H1 locs1 cells slots Q (F0 m (pc + 3) ls rest)) : W p l e R s m args below meth c H locs cells slots Q (F0 m pc ls (.int v :: .ref h :: rest)) :=
  va_putF (D := D) (ci := 0) (v := .int v) (ty := .int) (C := RX1) (T := TX1) (N := 18) C.1 C.2.1 C.2.2.2.2.1 in_X1 tyX1 tyX1_ok nmX1 C.2.2.2.1 C.2.2.2.2.2.1 I.1 I.2.1 I.2.2 0 rfl rfl 0 (by decide) (C.2.2.2.2.1 _ q38) (fun _ h9 => h9) rfl hin rfl (by decide +kernel) rfl rfl (Nat.le_of_ble_eq_true rfl) hdg (fun H1 l1 a1 a2 a3 => kk H1 l1 (upd f 0 v) pk_us (fun k hk => pk_un hk) ⟨a1, a2, a3⟩)
theorem gX_1 (C : kC p s m args meth c cc nL RX1 D d A) (I : iG wX D d A s.heap h a f r H locs) {v : Int32} (hv : f 1 = v) (hdg : decode cc pc = .ok (.getfield 44, 3)) (kk : W p l e R s m args below meth c H locs cells slots Q (F0 m (pc + 3) ls (.int v :: rest))) : W p l e R s m args below meth c H locs cells slots Q (F0 m pc ls (.ref h :: rest)) := by
  subst hv
  exact va_get (D := D) (ci := 0) (v := .int (f 1)) (C := RX1) (T := TX1) (N := 18) C.1 C.2.1 C.2.2.2.2.1 in_X1 C.2.2.2.1 C.2.2.2.2.2.1 I.1 0 rfl rfl 1 (by decide) (C.2.2.2.2.1 _ q39) (fun _ h9 => h9) rfl hdg kk
theorem pX_1 (C : kC p s m args meth c cc nL RX1 D d A) (I : iG wX D d A s.heap h a f r H locs) {v : Int32} (hin : meth.name = "<init>") (hdg : decode cc pc = .ok (.putfield 44, 3)) (kk : ∀ (H1 : Heap) (locs1 : List Loc) (f1 : Nat → Int32), f1 1 = v → (∀ k, k ≠ 1 → f1 k = f k) → iG wX D d A s.heap h a f1 r H1 locs1 → W p l e R s m args below meth c H1 locs1 cells slots Q (F0 m (pc + 3) ls rest)) : W p l e R s m args below meth c H locs cells slots Q (F0 m pc ls (.int v :: .ref h :: rest)) :=
  va_putF (D := D) (ci := 0) (v := .int v) (ty := .int) (C := RX1) (T := TX1) (N := 18) C.1 C.2.1 C.2.2.2.2.1 in_X1 tyX1 tyX1_ok nmX1 C.2.2.2.1 C.2.2.2.2.2.1 I.1 I.2.1 I.2.2 0 rfl rfl 1 (by decide) (C.2.2.2.2.1 _ q39) (fun _ h9 => h9) rfl hin rfl (by decide +kernel) rfl rfl (Nat.le_of_ble_eq_true rfl) hdg (fun H1 l1 a1 a2 a3 => kk H1 l1 (upd f 1 v) pk_us (fun k hk => pk_un hk) ⟨a1, a2, a3⟩)
theorem gX_2 (C : kC p s m args meth c cc nL RX1 D d A) (I : iG wX D d A s.heap h a f r H locs) {v : Int32} (hv : f 2 = v) (hdg : decode cc pc = .ok (.getfield 47, 3)) (kk : W p l e R s m args below meth c H locs cells slots Q (F0 m (pc + 3) ls (.int v :: rest))) : W p l e R s m args below meth c H locs cells slots Q (F0 m pc ls (.ref h :: rest)) := by
  subst hv
  exact va_get (D := D) (ci := 0) (v := .int (f 2)) (C := RX1) (T := TX1) (N := 18) C.1 C.2.1 C.2.2.2.2.1 in_X1 C.2.2.2.1 C.2.2.2.2.2.1 I.1 0 rfl rfl 2 (by decide) (C.2.2.2.2.1 _ q40) (fun _ h9 => h9) rfl hdg kk
theorem pX_2 (C : kC p s m args meth c cc nL RX1 D d A) (I : iG wX D d A s.heap h a f r H locs) {v : Int32} (hin : meth.name = "<init>") (hdg : decode cc pc = .ok (.putfield 47, 3)) (kk : ∀ (H1 : Heap) (locs1 : List Loc) (f1 : Nat → Int32), f1 2 = v → (∀ k, k ≠ 2 → f1 k = f k) → iG wX D d A s.heap h a f1 r H1 locs1 → W p l e R s m args below meth c H1 locs1 cells slots Q (F0 m (pc + 3) ls rest)) : W p l e R s m args below meth c H locs cells slots Q (F0 m pc ls (.int v :: .ref h :: rest)) :=
  va_putF (D := D) (ci := 0) (v := .int v) (ty := .int) (C := RX1) (T := TX1) (N := 18) C.1 C.2.1 C.2.2.2.2.1 in_X1 tyX1 tyX1_ok nmX1 C.2.2.2.1 C.2.2.2.2.2.1 I.1 I.2.1 I.2.2 0 rfl rfl 2 (by decide) (C.2.2.2.2.1 _ q40) (fun _ h9 => h9) rfl hin rfl (by decide +kernel) rfl rfl (Nat.le_of_ble_eq_true rfl) hdg (fun H1 l1 a1 a2 a3 => kk H1 l1 (upd f 2 v) pk_us (fun k hk => pk_un hk) ⟨a1, a2, a3⟩)
theorem gX_3 (C : kC p s m args meth c cc nL RX1 D d A) (I : iG wX D d A s.heap h a f r H locs) (hdg : decode cc pc = .ok (.getfield 7, 3)) (kk : W p l e R s m args below meth c H locs cells slots Q (F0 m (pc + 3) ls (.ref (a 3) :: rest))) : W p l e R s m args below meth c H locs cells slots Q (F0 m pc ls (.ref h :: rest)) :=
  va_get (D := D) (ci := 0) (v := .ref (a 3)) (C := RX1) (T := TX1) (N := 18) C.1 C.2.1 C.2.2.2.2.1 in_X1 C.2.2.2.1 C.2.2.2.2.2.1 I.1 0 rfl rfl 3 (by decide) (C.2.2.2.2.1 _ q41) (fun _ h9 => h9) rfl hdg kk
theorem ldX_3 (C : kC p s m args meth c cc nL RX1 D d A) (I : iG wX D d A s.heap h a f r H locs) {x v : Int32} (i : Nat) (hx : x = nI i) (hi : i < 324) (hv : r 3 i = v) (hdg : decode cc pc = .ok (.iaload, 1)) (kk : W p l e R s m args below meth c H locs cells slots Q (F0 m (pc + 1) ls (.int v :: rest))) : W p l e R s m args below meth c H locs cells slots Q (F0 m pc ls (.int x :: .ref (a 3) :: rest)) := by
  subst hx
  subst hv
  refine va_iald C.1 C.2.1 C.2.2.2.2.2.1 I.1 1 0 rfl rfl (vp_in_nI hi (by decide)) hdg ?_
  rw [nI_clamp (by omega)]
  exact kk
theorem stX_3 (C : kC p s m args meth c cc nL RX1 D d A) (I : iG wX D d A s.heap h a f r H locs) {x v : Int32} (i : Nat) (hx : x = nI i) (hi : i < 324) (hdg : decode cc pc = .ok (.iastore, 1)) (kk : ∀ (H1 : Heap) (locs1 : List Loc) (r1 : Nat → Nat → Int32), r1 3 = upd (r 3) i v → (∀ k, k ≠ 3 → r1 k = r k) → iG wX D d A s.heap h a f r1 H1 locs1 → W p l e R s m args below meth c H1 locs1 cells slots Q (F0 m (pc + 1) ls rest)) : W p l e R s m args below meth c H locs cells slots Q (F0 m pc ls (.int v :: .int x :: .ref (a 3) :: rest)) := by
  subst hx
  refine va_iast C.1 C.2.1 C.2.2.2.2.2.1 I.1 I.2.1 I.2.2 1 0 rfl rfl (vp_in_nI hi (by decide)) hdg (fun H1 l1 a1 a2 a3 => ?_)
  rw [nI_clamp (by omega)] at a1 a2
  exact kk H1 l1 (va_up r 3 (upd (r 3) i v)) (va_up_self _ _ _) (fun k hk => va_up_ne _ _ hk) ⟨a1, a2, a3⟩
theorem gX_4 (C : kC p s m args meth c cc nL RX1 D d A) (I : iG wX D d A s.heap h a f r H locs) (hdg : decode cc pc = .ok (.getfield 13, 3)) (kk : W p l e R s m args below meth c H locs cells slots Q (F0 m (pc + 3) ls (.ref (a 4) :: rest))) : W p l e R s m args below meth c H locs cells slots Q (F0 m pc ls (.ref h :: rest)) :=
  va_get (D := D) (ci := 0) (v := .ref (a 4)) (C := RX1) (T := TX1) (N := 18) C.1 C.2.1 C.2.2.2.2.1 in_X1 C.2.2.2.1 C.2.2.2.2.2.1 I.1 0 rfl rfl 4 (by decide) (C.2.2.2.2.1 _ q42) (fun _ h9 => h9) rfl hdg kk
theorem ldX_4 (C : kC p s m args meth c cc nL RX1 D d A) (I : iG wX D d A s.heap h a f r H locs) {x v : Int32} (i : Nat) (hx : x = nI i) (hi : i < 243) (hv : r 4 i = v) (hdg : decode cc pc = .ok (.iaload, 1)) (kk : W p l e R s m args below meth c H locs cells slots Q (F0 m (pc + 1) ls (.int v :: rest))) : W p l e R s m args below meth c H locs cells slots Q (F0 m pc ls (.int x :: .ref (a 4) :: rest)) := by
  subst hx
  subst hv
  refine va_iald C.1 C.2.1 C.2.2.2.2.2.1 I.1 2 0 rfl rfl (vp_in_nI hi (by decide)) hdg ?_
  rw [nI_clamp (by omega)]
  exact kk
theorem stX_4 (C : kC p s m args meth c cc nL RX1 D d A) (I : iG wX D d A s.heap h a f r H locs) {x v : Int32} (i : Nat) (hx : x = nI i) (hi : i < 243) (hdg : decode cc pc = .ok (.iastore, 1)) (kk : ∀ (H1 : Heap) (locs1 : List Loc) (r1 : Nat → Nat → Int32), r1 4 = upd (r 4) i v → (∀ k, k ≠ 4 → r1 k = r k) → iG wX D d A s.heap h a f r1 H1 locs1 → W p l e R s m args below meth c H1 locs1 cells slots Q (F0 m (pc + 1) ls rest)) : W p l e R s m args below meth c H locs cells slots Q (F0 m pc ls (.int v :: .int x :: .ref (a 4) :: rest)) := by
  subst hx
  refine va_iast C.1 C.2.1 C.2.2.2.2.2.1 I.1 I.2.1 I.2.2 2 0 rfl rfl (vp_in_nI hi (by decide)) hdg (fun H1 l1 a1 a2 a3 => ?_)
  rw [nI_clamp (by omega)] at a1 a2
  exact kk H1 l1 (va_up r 4 (upd (r 4) i v)) (va_up_self _ _ _) (fun k hk => va_up_ne _ _ hk) ⟨a1, a2, a3⟩
theorem gX_5 (C : kC p s m args meth c cc nL RX1 D d A) (I : iG wX D d A s.heap h a f r H locs) {v : Int32} (hv : f 5 = v) (hdg : decode cc pc = .ok (.getfield 58, 3)) (kk : W p l e R s m args below meth c H locs cells slots Q (F0 m (pc + 3) ls (.int v :: rest))) : W p l e R s m args below meth c H locs cells slots Q (F0 m pc ls (.ref h :: rest)) := by
  subst hv
  exact va_get (D := D) (ci := 0) (v := .int (f 5)) (C := RX1) (T := TX1) (N := 18) C.1 C.2.1 C.2.2.2.2.1 in_X1 C.2.2.2.1 C.2.2.2.2.2.1 I.1 0 rfl rfl 5 (by decide) (C.2.2.2.2.1 _ q43) (fun _ h9 => h9) rfl hdg kk
theorem pX_5 (C : kC p s m args meth c cc nL RX1 D d A) (I : iG wX D d A s.heap h a f r H locs) {v : Int32} (hdg : decode cc pc = .ok (.putfield 58, 3)) (kk : ∀ (H1 : Heap) (locs1 : List Loc) (f1 : Nat → Int32), f1 5 = v → (∀ k, k ≠ 5 → f1 k = f k) → iG wX D d A s.heap h a f1 r H1 locs1 → W p l e R s m args below meth c H1 locs1 cells slots Q (F0 m (pc + 3) ls rest)) : W p l e R s m args below meth c H locs cells slots Q (F0 m pc ls (.int v :: .ref h :: rest)) :=
  va_put (D := D) (ci := 0) (v := .int v) (ty := .int) (C := RX1) (T := TX1) (N := 18) C.1 C.2.1 C.2.2.2.2.1 in_X1 tyX1 tyX1_ok nmX1 C.2.2.2.1 C.2.2.2.2.2.1 I.1 I.2.1 I.2.2 0 rfl rfl 5 (by decide) (C.2.2.2.2.1 _ q43) (fun _ h9 => h9) rfl (by decide +kernel) rfl rfl (Nat.le_of_ble_eq_true rfl) hdg (fun H1 l1 a1 a2 a3 => kk H1 l1 (upd f 5 v) pk_us (fun k hk => pk_un hk) ⟨a1, a2, a3⟩)
theorem gX_6 (C : kC p s m args meth c cc nL RX1 D d A) (I : iG wX D d A s.heap h a f r H locs) (hdg : decode cc pc = .ok (.getfield 16, 3)) (kk : W p l e R s m args below meth c H locs cells slots Q (F0 m (pc + 3) ls (.ref (a 6) :: rest))) : W p l e R s m args below meth c H locs cells slots Q (F0 m pc ls (.ref h :: rest)) :=
  va_get (D := D) (ci := 0) (v := .ref (a 6)) (C := RX1) (T := TX1) (N := 18) C.1 C.2.1 C.2.2.2.2.1 in_X1 C.2.2.2.1 C.2.2.2.2.2.1 I.1 0 rfl rfl 6 (by decide) (C.2.2.2.2.1 _ q44) (fun _ h9 => h9) rfl hdg kk
theorem ldX_6 (C : kC p s m args meth c cc nL RX1 D d A) (I : iG wX D d A s.heap h a f r H locs) {x v : Int32} (i : Nat) (hx : x = nI i) (hi : i < 8) (hv : r 6 i = v) (hdg : decode cc pc = .ok (.iaload, 1)) (kk : W p l e R s m args below meth c H locs cells slots Q (F0 m (pc + 1) ls (.int v :: rest))) : W p l e R s m args below meth c H locs cells slots Q (F0 m pc ls (.int x :: .ref (a 6) :: rest)) := by
  subst hx
  subst hv
  refine va_iald C.1 C.2.1 C.2.2.2.2.2.1 I.1 3 0 rfl rfl (vp_in_nI hi (by decide)) hdg ?_
  rw [nI_clamp (by omega)]
  exact kk
theorem stX_6 (C : kC p s m args meth c cc nL RX1 D d A) (I : iG wX D d A s.heap h a f r H locs) {x v : Int32} (i : Nat) (hx : x = nI i) (hi : i < 8) (hdg : decode cc pc = .ok (.iastore, 1)) (kk : ∀ (H1 : Heap) (locs1 : List Loc) (r1 : Nat → Nat → Int32), r1 6 = upd (r 6) i v → (∀ k, k ≠ 6 → r1 k = r k) → iG wX D d A s.heap h a f r1 H1 locs1 → W p l e R s m args below meth c H1 locs1 cells slots Q (F0 m (pc + 1) ls rest)) : W p l e R s m args below meth c H locs cells slots Q (F0 m pc ls (.int v :: .int x :: .ref (a 6) :: rest)) := by
  subst hx
  refine va_iast C.1 C.2.1 C.2.2.2.2.2.1 I.1 I.2.1 I.2.2 3 0 rfl rfl (vp_in_nI hi (by decide)) hdg (fun H1 l1 a1 a2 a3 => ?_)
  rw [nI_clamp (by omega)] at a1 a2
  exact kk H1 l1 (va_up r 6 (upd (r 6) i v)) (va_up_self _ _ _) (fun k hk => va_up_ne _ _ hk) ⟨a1, a2, a3⟩
theorem gX_7 (C : kC p s m args meth c cc nL RX1 D d A) (I : iG wX D d A s.heap h a f r H locs) (hdg : decode cc pc = .ok (.getfield 19, 3)) (kk : W p l e R s m args below meth c H locs cells slots Q (F0 m (pc + 3) ls (.ref (a 7) :: rest))) : W p l e R s m args below meth c H locs cells slots Q (F0 m pc ls (.ref h :: rest)) :=
  va_get (D := D) (ci := 0) (v := .ref (a 7)) (C := RX1) (T := TX1) (N := 18) C.1 C.2.1 C.2.2.2.2.1 in_X1 C.2.2.2.1 C.2.2.2.2.2.1 I.1 0 rfl rfl 7 (by decide) (C.2.2.2.2.1 _ q45) (fun _ h9 => h9) rfl hdg kk
theorem ldX_7 (C : kC p s m args meth c cc nL RX1 D d A) (I : iG wX D d A s.heap h a f r H locs) {x v : Int32} (i : Nat) (hx : x = nI i) (hi : i < 8) (hv : r 7 i = v) (hdg : decode cc pc = .ok (.iaload, 1)) (kk : W p l e R s m args below meth c H locs cells slots Q (F0 m (pc + 1) ls (.int v :: rest))) : W p l e R s m args below meth c H locs cells slots Q (F0 m pc ls (.int x :: .ref (a 7) :: rest)) := by
  subst hx
  subst hv
  refine va_iald C.1 C.2.1 C.2.2.2.2.2.1 I.1 4 0 rfl rfl (vp_in_nI hi (by decide)) hdg ?_
  rw [nI_clamp (by omega)]
  exact kk
theorem stX_7 (C : kC p s m args meth c cc nL RX1 D d A) (I : iG wX D d A s.heap h a f r H locs) {x v : Int32} (i : Nat) (hx : x = nI i) (hi : i < 8) (hdg : decode cc pc = .ok (.iastore, 1)) (kk : ∀ (H1 : Heap) (locs1 : List Loc) (r1 : Nat → Nat → Int32), r1 7 = upd (r 7) i v → (∀ k, k ≠ 7 → r1 k = r k) → iG wX D d A s.heap h a f r1 H1 locs1 → W p l e R s m args below meth c H1 locs1 cells slots Q (F0 m (pc + 1) ls rest)) : W p l e R s m args below meth c H locs cells slots Q (F0 m pc ls (.int v :: .int x :: .ref (a 7) :: rest)) := by
  subst hx
  refine va_iast C.1 C.2.1 C.2.2.2.2.2.1 I.1 I.2.1 I.2.2 4 0 rfl rfl (vp_in_nI hi (by decide)) hdg (fun H1 l1 a1 a2 a3 => ?_)
  rw [nI_clamp (by omega)] at a1 a2
  exact kk H1 l1 (va_up r 7 (upd (r 7) i v)) (va_up_self _ _ _) (fun k hk => va_up_ne _ _ hk) ⟨a1, a2, a3⟩
theorem gX_8 (C : kC p s m args meth c cc nL RX1 D d A) (I : iG wX D d A s.heap h a f r H locs) (hdg : decode cc pc = .ok (.getfield 22, 3)) (kk : W p l e R s m args below meth c H locs cells slots Q (F0 m (pc + 3) ls (.ref (a 8) :: rest))) : W p l e R s m args below meth c H locs cells slots Q (F0 m pc ls (.ref h :: rest)) :=
  va_get (D := D) (ci := 0) (v := .ref (a 8)) (C := RX1) (T := TX1) (N := 18) C.1 C.2.1 C.2.2.2.2.1 in_X1 C.2.2.2.1 C.2.2.2.2.2.1 I.1 0 rfl rfl 8 (by decide) (C.2.2.2.2.1 _ q46) (fun _ h9 => h9) rfl hdg kk
theorem ldX_8 (C : kC p s m args meth c cc nL RX1 D d A) (I : iG wX D d A s.heap h a f r H locs) {x v : Int32} (i : Nat) (hx : x = nI i) (hi : i < 81) (hv : r 8 i = v) (hdg : decode cc pc = .ok (.iaload, 1)) (kk : W p l e R s m args below meth c H locs cells slots Q (F0 m (pc + 1) ls (.int v :: rest))) : W p l e R s m args below meth c H locs cells slots Q (F0 m pc ls (.int x :: .ref (a 8) :: rest)) := by
  subst hx
  subst hv
  refine va_iald C.1 C.2.1 C.2.2.2.2.2.1 I.1 5 0 rfl rfl (vp_in_nI hi (by decide)) hdg ?_
  rw [nI_clamp (by omega)]
  exact kk
theorem stX_8 (C : kC p s m args meth c cc nL RX1 D d A) (I : iG wX D d A s.heap h a f r H locs) {x v : Int32} (i : Nat) (hx : x = nI i) (hi : i < 81) (hdg : decode cc pc = .ok (.iastore, 1)) (kk : ∀ (H1 : Heap) (locs1 : List Loc) (r1 : Nat → Nat → Int32), r1 8 = upd (r 8) i v → (∀ k, k ≠ 8 → r1 k = r k) → iG wX D d A s.heap h a f r1 H1 locs1 → W p l e R s m args below meth c H1 locs1 cells slots Q (F0 m (pc + 1) ls rest)) : W p l e R s m args below meth c H locs cells slots Q (F0 m pc ls (.int v :: .int x :: .ref (a 8) :: rest)) := by
  subst hx
  refine va_iast C.1 C.2.1 C.2.2.2.2.2.1 I.1 I.2.1 I.2.2 5 0 rfl rfl (vp_in_nI hi (by decide)) hdg (fun H1 l1 a1 a2 a3 => ?_)
  rw [nI_clamp (by omega)] at a1 a2
  exact kk H1 l1 (va_up r 8 (upd (r 8) i v)) (va_up_self _ _ _) (fun k hk => va_up_ne _ _ hk) ⟨a1, a2, a3⟩
theorem gX_9 (C : kC p s m args meth c cc nL RX1 D d A) (I : iG wX D d A s.heap h a f r H locs) (hdg : decode cc pc = .ok (.getfield 25, 3)) (kk : W p l e R s m args below meth c H locs cells slots Q (F0 m (pc + 3) ls (.ref (a 9) :: rest))) : W p l e R s m args below meth c H locs cells slots Q (F0 m pc ls (.ref h :: rest)) :=
  va_get (D := D) (ci := 0) (v := .ref (a 9)) (C := RX1) (T := TX1) (N := 18) C.1 C.2.1 C.2.2.2.2.1 in_X1 C.2.2.2.1 C.2.2.2.2.2.1 I.1 0 rfl rfl 9 (by decide) (C.2.2.2.2.1 _ q47) (fun _ h9 => h9) rfl hdg kk
theorem ldX_9 (C : kC p s m args meth c cc nL RX1 D d A) (I : iG wX D d A s.heap h a f r H locs) {x v : Int32} (i : Nat) (hx : x = nI i) (hi : i < 45) (hv : r 9 i = v) (hdg : decode cc pc = .ok (.iaload, 1)) (kk : W p l e R s m args below meth c H locs cells slots Q (F0 m (pc + 1) ls (.int v :: rest))) : W p l e R s m args below meth c H locs cells slots Q (F0 m pc ls (.int x :: .ref (a 9) :: rest)) := by
  subst hx
  subst hv
  refine va_iald C.1 C.2.1 C.2.2.2.2.2.1 I.1 6 0 rfl rfl (vp_in_nI hi (by decide)) hdg ?_
  rw [nI_clamp (by omega)]
  exact kk
theorem stX_9 (C : kC p s m args meth c cc nL RX1 D d A) (I : iG wX D d A s.heap h a f r H locs) {x v : Int32} (i : Nat) (hx : x = nI i) (hi : i < 45) (hdg : decode cc pc = .ok (.iastore, 1)) (kk : ∀ (H1 : Heap) (locs1 : List Loc) (r1 : Nat → Nat → Int32), r1 9 = upd (r 9) i v → (∀ k, k ≠ 9 → r1 k = r k) → iG wX D d A s.heap h a f r1 H1 locs1 → W p l e R s m args below meth c H1 locs1 cells slots Q (F0 m (pc + 1) ls rest)) : W p l e R s m args below meth c H locs cells slots Q (F0 m pc ls (.int v :: .int x :: .ref (a 9) :: rest)) := by
  subst hx
  refine va_iast C.1 C.2.1 C.2.2.2.2.2.1 I.1 I.2.1 I.2.2 6 0 rfl rfl (vp_in_nI hi (by decide)) hdg (fun H1 l1 a1 a2 a3 => ?_)
  rw [nI_clamp (by omega)] at a1 a2
  exact kk H1 l1 (va_up r 9 (upd (r 9) i v)) (va_up_self _ _ _) (fun k hk => va_up_ne _ _ hk) ⟨a1, a2, a3⟩
theorem gX_10 (C : kC p s m args meth c cc nL RX1 D d A) (I : iG wX D d A s.heap h a f r H locs) {v : Int32} (hv : f 10 = v) (hdg : decode cc pc = .ok (.getfield 69, 3)) (kk : W p l e R s m args below meth c H locs cells slots Q (F0 m (pc + 3) ls (.int v :: rest))) : W p l e R s m args below meth c H locs cells slots Q (F0 m pc ls (.ref h :: rest)) := by
  subst hv
  exact va_get (D := D) (ci := 0) (v := .int (f 10)) (C := RX1) (T := TX1) (N := 18) C.1 C.2.1 C.2.2.2.2.1 in_X1 C.2.2.2.1 C.2.2.2.2.2.1 I.1 0 rfl rfl 10 (by decide) (C.2.2.2.2.1 _ q48) (fun _ h9 => h9) rfl hdg kk
theorem pX_10 (C : kC p s m args meth c cc nL RX1 D d A) (I : iG wX D d A s.heap h a f r H locs) {v : Int32} (hdg : decode cc pc = .ok (.putfield 69, 3)) (kk : ∀ (H1 : Heap) (locs1 : List Loc) (f1 : Nat → Int32), f1 10 = v → (∀ k, k ≠ 10 → f1 k = f k) → iG wX D d A s.heap h a f1 r H1 locs1 → W p l e R s m args below meth c H1 locs1 cells slots Q (F0 m (pc + 3) ls rest)) : W p l e R s m args below meth c H locs cells slots Q (F0 m pc ls (.int v :: .ref h :: rest)) :=
  va_put (D := D) (ci := 0) (v := .int v) (ty := .int) (C := RX1) (T := TX1) (N := 18) C.1 C.2.1 C.2.2.2.2.1 in_X1 tyX1 tyX1_ok nmX1 C.2.2.2.1 C.2.2.2.2.2.1 I.1 I.2.1 I.2.2 0 rfl rfl 10 (by decide) (C.2.2.2.2.1 _ q48) (fun _ h9 => h9) rfl (by decide +kernel) rfl rfl (Nat.le_of_ble_eq_true rfl) hdg (fun H1 l1 a1 a2 a3 => kk H1 l1 (upd f 10 v) pk_us (fun k hk => pk_un hk) ⟨a1, a2, a3⟩)
theorem gX_11 (C : kC p s m args meth c cc nL RX1 D d A) (I : iG wX D d A s.heap h a f r H locs) {v : Int32} (hv : f 11 = v) (hdg : decode cc pc = .ok (.getfield 72, 3)) (kk : W p l e R s m args below meth c H locs cells slots Q (F0 m (pc + 3) ls (.int v :: rest))) : W p l e R s m args below meth c H locs cells slots Q (F0 m pc ls (.ref h :: rest)) := by
  subst hv
  exact va_get (D := D) (ci := 0) (v := .int (f 11)) (C := RX1) (T := TX1) (N := 18) C.1 C.2.1 C.2.2.2.2.1 in_X1 C.2.2.2.1 C.2.2.2.2.2.1 I.1 0 rfl rfl 11 (by decide) (C.2.2.2.2.1 _ q49) (fun _ h9 => h9) rfl hdg kk
theorem pX_11 (C : kC p s m args meth c cc nL RX1 D d A) (I : iG wX D d A s.heap h a f r H locs) {v : Int32} (hdg : decode cc pc = .ok (.putfield 72, 3)) (kk : ∀ (H1 : Heap) (locs1 : List Loc) (f1 : Nat → Int32), f1 11 = v → (∀ k, k ≠ 11 → f1 k = f k) → iG wX D d A s.heap h a f1 r H1 locs1 → W p l e R s m args below meth c H1 locs1 cells slots Q (F0 m (pc + 3) ls rest)) : W p l e R s m args below meth c H locs cells slots Q (F0 m pc ls (.int v :: .ref h :: rest)) :=
  va_put (D := D) (ci := 0) (v := .int v) (ty := .int) (C := RX1) (T := TX1) (N := 18) C.1 C.2.1 C.2.2.2.2.1 in_X1 tyX1 tyX1_ok nmX1 C.2.2.2.1 C.2.2.2.2.2.1 I.1 I.2.1 I.2.2 0 rfl rfl 11 (by decide) (C.2.2.2.2.1 _ q49) (fun _ h9 => h9) rfl (by decide +kernel) rfl rfl (Nat.le_of_ble_eq_true rfl) hdg (fun H1 l1 a1 a2 a3 => kk H1 l1 (upd f 11 v) pk_us (fun k hk => pk_un hk) ⟨a1, a2, a3⟩)
theorem gX_12 (C : kC p s m args meth c cc nL RX1 D d A) (I : iG wX D d A s.heap h a f r H locs) {v : Int32} (hv : f 12 = v) (hdg : decode cc pc = .ok (.getfield 75, 3)) (kk : W p l e R s m args below meth c H locs cells slots Q (F0 m (pc + 3) ls (.int v :: rest))) : W p l e R s m args below meth c H locs cells slots Q (F0 m pc ls (.ref h :: rest)) := by
  subst hv
  exact va_get (D := D) (ci := 0) (v := .int (f 12)) (C := RX1) (T := TX1) (N := 18) C.1 C.2.1 C.2.2.2.2.1 in_X1 C.2.2.2.1 C.2.2.2.2.2.1 I.1 0 rfl rfl 12 (by decide) (C.2.2.2.2.1 _ q50) (fun _ h9 => h9) rfl hdg kk
theorem pX_12 (C : kC p s m args meth c cc nL RX1 D d A) (I : iG wX D d A s.heap h a f r H locs) {v : Int32} (hdg : decode cc pc = .ok (.putfield 75, 3)) (kk : ∀ (H1 : Heap) (locs1 : List Loc) (f1 : Nat → Int32), f1 12 = v → (∀ k, k ≠ 12 → f1 k = f k) → iG wX D d A s.heap h a f1 r H1 locs1 → W p l e R s m args below meth c H1 locs1 cells slots Q (F0 m (pc + 3) ls rest)) : W p l e R s m args below meth c H locs cells slots Q (F0 m pc ls (.int v :: .ref h :: rest)) :=
  va_put (D := D) (ci := 0) (v := .int v) (ty := .int) (C := RX1) (T := TX1) (N := 18) C.1 C.2.1 C.2.2.2.2.1 in_X1 tyX1 tyX1_ok nmX1 C.2.2.2.1 C.2.2.2.2.2.1 I.1 I.2.1 I.2.2 0 rfl rfl 12 (by decide) (C.2.2.2.2.1 _ q50) (fun _ h9 => h9) rfl (by decide +kernel) rfl rfl (Nat.le_of_ble_eq_true rfl) hdg (fun H1 l1 a1 a2 a3 => kk H1 l1 (upd f 12 v) pk_us (fun k hk => pk_un hk) ⟨a1, a2, a3⟩)
theorem gX_13 (C : kC p s m args meth c cc nL RX1 D d A) (I : iG wX D d A s.heap h a f r H locs) {v : Int32} (hv : f 13 = v) (hdg : decode cc pc = .ok (.getfield 87, 3)) (kk : W p l e R s m args below meth c H locs cells slots Q (F0 m (pc + 3) ls (.int v :: rest))) : W p l e R s m args below meth c H locs cells slots Q (F0 m pc ls (.ref h :: rest)) := by
  subst hv
  exact va_get (D := D) (ci := 0) (v := .int (f 13)) (C := RX1) (T := TX1) (N := 18) C.1 C.2.1 C.2.2.2.2.1 in_X1 C.2.2.2.1 C.2.2.2.2.2.1 I.1 0 rfl rfl 13 (by decide) (C.2.2.2.2.1 _ q51) (fun _ h9 => h9) rfl hdg kk
theorem pX_13 (C : kC p s m args meth c cc nL RX1 D d A) (I : iG wX D d A s.heap h a f r H locs) {v : Int32} (hdg : decode cc pc = .ok (.putfield 87, 3)) (kk : ∀ (H1 : Heap) (locs1 : List Loc) (f1 : Nat → Int32), f1 13 = v → (∀ k, k ≠ 13 → f1 k = f k) → iG wX D d A s.heap h a f1 r H1 locs1 → W p l e R s m args below meth c H1 locs1 cells slots Q (F0 m (pc + 3) ls rest)) : W p l e R s m args below meth c H locs cells slots Q (F0 m pc ls (.int v :: .ref h :: rest)) :=
  va_put (D := D) (ci := 0) (v := .int v) (ty := .int) (C := RX1) (T := TX1) (N := 18) C.1 C.2.1 C.2.2.2.2.1 in_X1 tyX1 tyX1_ok nmX1 C.2.2.2.1 C.2.2.2.2.2.1 I.1 I.2.1 I.2.2 0 rfl rfl 13 (by decide) (C.2.2.2.2.1 _ q51) (fun _ h9 => h9) rfl (by decide +kernel) rfl rfl (Nat.le_of_ble_eq_true rfl) hdg (fun H1 l1 a1 a2 a3 => kk H1 l1 (upd f 13 v) pk_us (fun k hk => pk_un hk) ⟨a1, a2, a3⟩)
theorem gX_14 (C : kC p s m args meth c cc nL RX1 D d A) (I : iG wX D d A s.heap h a f r H locs) (hdg : decode cc pc = .ok (.getfield 28, 3)) (kk : W p l e R s m args below meth c H locs cells slots Q (F0 m (pc + 3) ls (.ref (a 14) :: rest))) : W p l e R s m args below meth c H locs cells slots Q (F0 m pc ls (.ref h :: rest)) :=
  va_get (D := D) (ci := 0) (v := .ref (a 14)) (C := RX1) (T := TX1) (N := 18) C.1 C.2.1 C.2.2.2.2.1 in_X1 C.2.2.2.1 C.2.2.2.2.2.1 I.1 0 rfl rfl 14 (by decide) (C.2.2.2.2.1 _ q52) (fun _ h9 => h9) rfl hdg kk
theorem ldX_14 (C : kC p s m args meth c cc nL RX1 D d A) (I : iG wX D d A s.heap h a f r H locs) {x v : Int32} (i : Nat) (hx : x = nI i) (hi : i < 8) (hv : r 14 i = v) (hdg : decode cc pc = .ok (.iaload, 1)) (kk : W p l e R s m args below meth c H locs cells slots Q (F0 m (pc + 1) ls (.int v :: rest))) : W p l e R s m args below meth c H locs cells slots Q (F0 m pc ls (.int x :: .ref (a 14) :: rest)) := by
  subst hx
  subst hv
  refine va_iald C.1 C.2.1 C.2.2.2.2.2.1 I.1 7 0 rfl rfl (vp_in_nI hi (by decide)) hdg ?_
  rw [nI_clamp (by omega)]
  exact kk
theorem stX_14 (C : kC p s m args meth c cc nL RX1 D d A) (I : iG wX D d A s.heap h a f r H locs) {x v : Int32} (i : Nat) (hx : x = nI i) (hi : i < 8) (hdg : decode cc pc = .ok (.iastore, 1)) (kk : ∀ (H1 : Heap) (locs1 : List Loc) (r1 : Nat → Nat → Int32), r1 14 = upd (r 14) i v → (∀ k, k ≠ 14 → r1 k = r k) → iG wX D d A s.heap h a f r1 H1 locs1 → W p l e R s m args below meth c H1 locs1 cells slots Q (F0 m (pc + 1) ls rest)) : W p l e R s m args below meth c H locs cells slots Q (F0 m pc ls (.int v :: .int x :: .ref (a 14) :: rest)) := by
  subst hx
  refine va_iast C.1 C.2.1 C.2.2.2.2.2.1 I.1 I.2.1 I.2.2 7 0 rfl rfl (vp_in_nI hi (by decide)) hdg (fun H1 l1 a1 a2 a3 => ?_)
  rw [nI_clamp (by omega)] at a1 a2
  exact kk H1 l1 (va_up r 14 (upd (r 14) i v)) (va_up_self _ _ _) (fun k hk => va_up_ne _ _ hk) ⟨a1, a2, a3⟩
theorem gX_15 (C : kC p s m args meth c cc nL RX1 D d A) (I : iG wX D d A s.heap h a f r H locs) (hdg : decode cc pc = .ok (.getfield 31, 3)) (kk : W p l e R s m args below meth c H locs cells slots Q (F0 m (pc + 3) ls (.ref (a 15) :: rest))) : W p l e R s m args below meth c H locs cells slots Q (F0 m pc ls (.ref h :: rest)) :=
  va_get (D := D) (ci := 0) (v := .ref (a 15)) (C := RX1) (T := TX1) (N := 18) C.1 C.2.1 C.2.2.2.2.1 in_X1 C.2.2.2.1 C.2.2.2.2.2.1 I.1 0 rfl rfl 15 (by decide) (C.2.2.2.2.1 _ q53) (fun _ h9 => h9) rfl hdg kk
theorem ldX_15 (C : kC p s m args meth c cc nL RX1 D d A) (I : iG wX D d A s.heap h a f r H locs) {x v : Int32} (i : Nat) (hx : x = nI i) (hi : i < 648) (hv : r 15 i = v) (hdg : decode cc pc = .ok (.iaload, 1)) (kk : W p l e R s m args below meth c H locs cells slots Q (F0 m (pc + 1) ls (.int v :: rest))) : W p l e R s m args below meth c H locs cells slots Q (F0 m pc ls (.int x :: .ref (a 15) :: rest)) := by
  subst hx
  subst hv
  refine va_iald C.1 C.2.1 C.2.2.2.2.2.1 I.1 8 0 rfl rfl (vp_in_nI hi (by decide)) hdg ?_
  rw [nI_clamp (by omega)]
  exact kk
theorem stX_15 (C : kC p s m args meth c cc nL RX1 D d A) (I : iG wX D d A s.heap h a f r H locs) {x v : Int32} (i : Nat) (hx : x = nI i) (hi : i < 648) (hdg : decode cc pc = .ok (.iastore, 1)) (kk : ∀ (H1 : Heap) (locs1 : List Loc) (r1 : Nat → Nat → Int32), r1 15 = upd (r 15) i v → (∀ k, k ≠ 15 → r1 k = r k) → iG wX D d A s.heap h a f r1 H1 locs1 → W p l e R s m args below meth c H1 locs1 cells slots Q (F0 m (pc + 1) ls rest)) : W p l e R s m args below meth c H locs cells slots Q (F0 m pc ls (.int v :: .int x :: .ref (a 15) :: rest)) := by
  subst hx
  refine va_iast C.1 C.2.1 C.2.2.2.2.2.1 I.1 I.2.1 I.2.2 8 0 rfl rfl (vp_in_nI hi (by decide)) hdg (fun H1 l1 a1 a2 a3 => ?_)
  rw [nI_clamp (by omega)] at a1 a2
  exact kk H1 l1 (va_up r 15 (upd (r 15) i v)) (va_up_self _ _ _) (fun k hk => va_up_ne _ _ hk) ⟨a1, a2, a3⟩
theorem gX_16 (C : kC p s m args meth c cc nL RX1 D d A) (I : iG wX D d A s.heap h a f r H locs) (hdg : decode cc pc = .ok (.getfield 34, 3)) (kk : W p l e R s m args below meth c H locs cells slots Q (F0 m (pc + 3) ls (.ref (a 16) :: rest))) : W p l e R s m args below meth c H locs cells slots Q (F0 m pc ls (.ref h :: rest)) :=
  va_get (D := D) (ci := 0) (v := .ref (a 16)) (C := RX1) (T := TX1) (N := 18) C.1 C.2.1 C.2.2.2.2.1 in_X1 C.2.2.2.1 C.2.2.2.2.2.1 I.1 0 rfl rfl 16 (by decide) (C.2.2.2.2.1 _ q54) (fun _ h9 => h9) rfl hdg kk
theorem ldX_16 (C : kC p s m args meth c cc nL RX1 D d A) (I : iG wX D d A s.heap h a f r H locs) {x v : Int32} (i : Nat) (hx : x = nI i) (hi : i < 256) (hv : r 16 i = v) (hdg : decode cc pc = .ok (.iaload, 1)) (kk : W p l e R s m args below meth c H locs cells slots Q (F0 m (pc + 1) ls (.int v :: rest))) : W p l e R s m args below meth c H locs cells slots Q (F0 m pc ls (.int x :: .ref (a 16) :: rest)) := by
  subst hx
  subst hv
  refine va_iald C.1 C.2.1 C.2.2.2.2.2.1 I.1 9 0 rfl rfl (vp_in_nI hi (by decide)) hdg ?_
  rw [nI_clamp (by omega)]
  exact kk
theorem stX_16 (C : kC p s m args meth c cc nL RX1 D d A) (I : iG wX D d A s.heap h a f r H locs) {x v : Int32} (i : Nat) (hx : x = nI i) (hi : i < 256) (hdg : decode cc pc = .ok (.iastore, 1)) (kk : ∀ (H1 : Heap) (locs1 : List Loc) (r1 : Nat → Nat → Int32), r1 16 = upd (r 16) i v → (∀ k, k ≠ 16 → r1 k = r k) → iG wX D d A s.heap h a f r1 H1 locs1 → W p l e R s m args below meth c H1 locs1 cells slots Q (F0 m (pc + 1) ls rest)) : W p l e R s m args below meth c H locs cells slots Q (F0 m pc ls (.int v :: .int x :: .ref (a 16) :: rest)) := by
  subst hx
  refine va_iast C.1 C.2.1 C.2.2.2.2.2.1 I.1 I.2.1 I.2.2 9 0 rfl rfl (vp_in_nI hi (by decide)) hdg (fun H1 l1 a1 a2 a3 => ?_)
  rw [nI_clamp (by omega)] at a1 a2
  exact kk H1 l1 (va_up r 16 (upd (r 16) i v)) (va_up_self _ _ _) (fun k hk => va_up_ne _ _ hk) ⟨a1, a2, a3⟩
theorem gX_17 (C : kC p s m args meth c cc nL RX1 D d A) (I : iG wX D d A s.heap h a f r H locs) (hdg : decode cc pc = .ok (.getfield 37, 3)) (kk : W p l e R s m args below meth c H locs cells slots Q (F0 m (pc + 3) ls (.ref (a 17) :: rest))) : W p l e R s m args below meth c H locs cells slots Q (F0 m pc ls (.ref h :: rest)) :=
  va_get (D := D) (ci := 0) (v := .ref (a 17)) (C := RX1) (T := TX1) (N := 18) C.1 C.2.1 C.2.2.2.2.1 in_X1 C.2.2.2.1 C.2.2.2.2.2.1 I.1 0 rfl rfl 17 (by decide) (C.2.2.2.2.1 _ q55) (fun _ h9 => h9) rfl hdg kk
theorem ldX_17 (C : kC p s m args meth c cc nL RX1 D d A) (I : iG wX D d A s.heap h a f r H locs) {x v : Int32} (i : Nat) (hx : x = nI i) (hi : i < 45) (hv : r 17 i = v) (hdg : decode cc pc = .ok (.iaload, 1)) (kk : W p l e R s m args below meth c H locs cells slots Q (F0 m (pc + 1) ls (.int v :: rest))) : W p l e R s m args below meth c H locs cells slots Q (F0 m pc ls (.int x :: .ref (a 17) :: rest)) := by
  subst hx
  subst hv
  refine va_iald C.1 C.2.1 C.2.2.2.2.2.1 I.1 10 0 rfl rfl (vp_in_nI hi (by decide)) hdg ?_
  rw [nI_clamp (by omega)]
  exact kk
theorem stX_17 (C : kC p s m args meth c cc nL RX1 D d A) (I : iG wX D d A s.heap h a f r H locs) {x v : Int32} (i : Nat) (hx : x = nI i) (hi : i < 45) (hdg : decode cc pc = .ok (.iastore, 1)) (kk : ∀ (H1 : Heap) (locs1 : List Loc) (r1 : Nat → Nat → Int32), r1 17 = upd (r 17) i v → (∀ k, k ≠ 17 → r1 k = r k) → iG wX D d A s.heap h a f r1 H1 locs1 → W p l e R s m args below meth c H1 locs1 cells slots Q (F0 m (pc + 1) ls rest)) : W p l e R s m args below meth c H locs cells slots Q (F0 m pc ls (.int v :: .int x :: .ref (a 17) :: rest)) := by
  subst hx
  refine va_iast C.1 C.2.1 C.2.2.2.2.2.1 I.1 I.2.1 I.2.2 10 0 rfl rfl (vp_in_nI hi (by decide)) hdg (fun H1 l1 a1 a2 a3 => ?_)
  rw [nI_clamp (by omega)] at a1 a2
  exact kk H1 l1 (va_up r 17 (upd (r 17) i v)) (va_up_self _ _ _) (fun k hk => va_up_ne _ _ hk) ⟨a1, a2, a3⟩
theorem gM_0 (C : kC p s m args meth c cc nL RX2 D d A) (I : iG wM D d A s.heap h a f r H locs) {v : Int32} (hv : f 0 = v) (hdg : decode cc pc = .ok (.getfield 28, 3)) (kk : W p l e R s m args below meth c H locs cells slots Q (F0 m (pc + 3) ls (.int v :: rest))) : W p l e R s m args below meth c H locs cells slots Q (F0 m pc ls (.ref h :: rest)) := by
  subst hv
  exact va_get (D := D) (ci := 1) (v := .int (f 0)) (C := RX2) (T := TX2) (N := 11) C.1 C.2.1 C.2.2.2.2.1 in_X2 C.2.2.2.1 C.2.2.2.2.2.1 I.1 0 rfl rfl 0 (by decide) (C.2.2.2.2.1 _ q228) (fun _ h9 => h9) rfl hdg kk
theorem pM_0 (C : kC p s m args meth c cc nL RX2 D d A) (I : iG wM D d A s.heap h a f r H locs) {v : Int32} (hin : meth.name = "<init>") (hdg : decode cc pc = .ok (.putfield 28, 3)) (kk : ∀ (H1 : Heap) (locs1 : List Loc) (f1 : Nat → Int32), f1 0 = v → (∀ k, k ≠ 0 → f1 k = f k) → iG wM D d A s.heap h a f1 r H1 locs1 → W p l e R s m args below meth c H1 locs1 cells slots Q (F0 m (pc + 3) ls rest)) : W p l e R s m args below meth c H locs cells slots Q (F0 m pc ls (.int v :: .ref h :: rest)) :=
  va_putF (D := D) (ci := 1) (v := .int v) (ty := .int) (C := RX2) (T := TX2) (N := 11) C.1 C.2.1 C.2.2.2.2.1 in_X2 tyX2 tyX2_ok nmX2 C.2.2.2.1 C.2.2.2.2.2.1 I.1 I.2.1 I.2.2 0 rfl rfl 0 (by decide) (C.2.2.2.2.1 _ q228) (fun _ h9 => h9) rfl hin rfl (by decide +kernel) rfl rfl (Nat.le_of_ble_eq_true rfl) hdg (fun H1 l1 a1 a2 a3 => kk H1 l1 (upd f 0 v) pk_us (fun k hk => pk_un hk) ⟨a1, a2, a3⟩)
theorem gM_1 (C : kC p s m args meth c cc nL RX2 D d A) (I : iG wM D d A s.heap h a f r H locs) {v : Int32} (hv : f 1 = v) (hdg : decode cc pc = .ok (.getfield 32, 3)) (kk : W p l e R s m args below meth c H locs cells slots Q (F0 m (pc + 3) ls (.int v :: rest))) : W p l e R s m args below meth c H locs cells slots Q (F0 m pc ls (.ref h :: rest)) := by
  subst hv
  exact va_get (D := D) (ci := 1) (v := .int (f 1)) (C := RX2) (T := TX2) (N := 11) C.1 C.2.1 C.2.2.2.2.1 in_X2 C.2.2.2.1 C.2.2.2.2.2.1 I.1 0 rfl rfl 1 (by decide) (C.2.2.2.2.1 _ q229) (fun _ h9 => h9) rfl hdg kk
theorem pM_1 (C : kC p s m args meth c cc nL RX2 D d A) (I : iG wM D d A s.heap h a f r H locs) {v : Int32} (hin : meth.name = "<init>") (hdg : decode cc pc = .ok (.putfield 32, 3)) (kk : ∀ (H1 : Heap) (locs1 : List Loc) (f1 : Nat → Int32), f1 1 = v → (∀ k, k ≠ 1 → f1 k = f k) → iG wM D d A s.heap h a f1 r H1 locs1 → W p l e R s m args below meth c H1 locs1 cells slots Q (F0 m (pc + 3) ls rest)) : W p l e R s m args below meth c H locs cells slots Q (F0 m pc ls (.int v :: .ref h :: rest)) :=
  va_putF (D := D) (ci := 1) (v := .int v) (ty := .int) (C := RX2) (T := TX2) (N := 11) C.1 C.2.1 C.2.2.2.2.1 in_X2 tyX2 tyX2_ok nmX2 C.2.2.2.1 C.2.2.2.2.2.1 I.1 I.2.1 I.2.2 0 rfl rfl 1 (by decide) (C.2.2.2.2.1 _ q229) (fun _ h9 => h9) rfl hin rfl (by decide +kernel) rfl rfl (Nat.le_of_ble_eq_true rfl) hdg (fun H1 l1 a1 a2 a3 => kk H1 l1 (upd f 1 v) pk_us (fun k hk => pk_un hk) ⟨a1, a2, a3⟩)
theorem gM_2 (C : kC p s m args meth c cc nL RX2 D d A) (I : iG wM D d A s.heap h a f r H locs) {v : Int32} (hv : f 2 = v) (hdg : decode cc pc = .ok (.getfield 35, 3)) (kk : W p l e R s m args below meth c H locs cells slots Q (F0 m (pc + 3) ls (.int v :: rest))) : W p l e R s m args below meth c H locs cells slots Q (F0 m pc ls (.ref h :: rest)) := by
  subst hv
  exact va_get (D := D) (ci := 1) (v := .int (f 2)) (C := RX2) (T := TX2) (N := 11) C.1 C.2.1 C.2.2.2.2.1 in_X2 C.2.2.2.1 C.2.2.2.2.2.1 I.1 0 rfl rfl 2 (by decide) (C.2.2.2.2.1 _ q230) (fun _ h9 => h9) rfl hdg kk
theorem pM_2 (C : kC p s m args meth c cc nL RX2 D d A) (I : iG wM D d A s.heap h a f r H locs) {v : Int32} (hin : meth.name = "<init>") (hdg : decode cc pc = .ok (.putfield 35, 3)) (kk : ∀ (H1 : Heap) (locs1 : List Loc) (f1 : Nat → Int32), f1 2 = v → (∀ k, k ≠ 2 → f1 k = f k) → iG wM D d A s.heap h a f1 r H1 locs1 → W p l e R s m args below meth c H1 locs1 cells slots Q (F0 m (pc + 3) ls rest)) : W p l e R s m args below meth c H locs cells slots Q (F0 m pc ls (.int v :: .ref h :: rest)) :=
  va_putF (D := D) (ci := 1) (v := .int v) (ty := .int) (C := RX2) (T := TX2) (N := 11) C.1 C.2.1 C.2.2.2.2.1 in_X2 tyX2 tyX2_ok nmX2 C.2.2.2.1 C.2.2.2.2.2.1 I.1 I.2.1 I.2.2 0 rfl rfl 2 (by decide) (C.2.2.2.2.1 _ q230) (fun _ h9 => h9) rfl hin rfl (by decide +kernel) rfl rfl (Nat.le_of_ble_eq_true rfl) hdg (fun H1 l1 a1 a2 a3 => kk H1 l1 (upd f 2 v) pk_us (fun k hk => pk_un hk) ⟨a1, a2, a3⟩)
theorem gM_3 (C : kC p s m args meth c cc nL RX2 D d A) (I : iG wM D d A s.heap h a f r H locs) (hdg : decode cc pc = .ok (.getfield 7, 3)) (kk : W p l e R s m args below meth c H locs cells slots Q (F0 m (pc + 3) ls (.ref (a 3) :: rest))) : W p l e R s m args below meth c H locs cells slots Q (F0 m pc ls (.ref h :: rest)) :=
  va_get (D := D) (ci := 1) (v := .ref (a 3)) (C := RX2) (T := TX2) (N := 11) C.1 C.2.1 C.2.2.2.2.1 in_X2 C.2.2.2.1 C.2.2.2.2.2.1 I.1 0 rfl rfl 3 (by decide) (C.2.2.2.2.1 _ q231) (fun _ h9 => h9) rfl hdg kk
theorem ldM_3 (C : kC p s m args meth c cc nL RX2 D d A) (I : iG wM D d A s.heap h a f r H locs) {x v : Int32} (i : Nat) (hx : x = nI i) (hi : i < 8) (hv : r 3 i = v) (hdg : decode cc pc = .ok (.iaload, 1)) (kk : W p l e R s m args below meth c H locs cells slots Q (F0 m (pc + 1) ls (.int v :: rest))) : W p l e R s m args below meth c H locs cells slots Q (F0 m pc ls (.int x :: .ref (a 3) :: rest)) := by
  subst hx
  subst hv
  refine va_iald C.1 C.2.1 C.2.2.2.2.2.1 I.1 1 0 rfl rfl (vp_in_nI hi (by decide)) hdg ?_
  rw [nI_clamp (by omega)]
  exact kk
theorem stM_3 (C : kC p s m args meth c cc nL RX2 D d A) (I : iG wM D d A s.heap h a f r H locs) {x v : Int32} (i : Nat) (hx : x = nI i) (hi : i < 8) (hdg : decode cc pc = .ok (.iastore, 1)) (kk : ∀ (H1 : Heap) (locs1 : List Loc) (r1 : Nat → Nat → Int32), r1 3 = upd (r 3) i v → (∀ k, k ≠ 3 → r1 k = r k) → iG wM D d A s.heap h a f r1 H1 locs1 → W p l e R s m args below meth c H1 locs1 cells slots Q (F0 m (pc + 1) ls rest)) : W p l e R s m args below meth c H locs cells slots Q (F0 m pc ls (.int v :: .int x :: .ref (a 3) :: rest)) := by
  subst hx
  refine va_iast C.1 C.2.1 C.2.2.2.2.2.1 I.1 I.2.1 I.2.2 1 0 rfl rfl (vp_in_nI hi (by decide)) hdg (fun H1 l1 a1 a2 a3 => ?_)
  rw [nI_clamp (by omega)] at a1 a2
  exact kk H1 l1 (va_up r 3 (upd (r 3) i v)) (va_up_self _ _ _) (fun k hk => va_up_ne _ _ hk) ⟨a1, a2, a3⟩
theorem gM_4 (C : kC p s m args meth c cc nL RX2 D d A) (I : iG wM D d A s.heap h a f r H locs) (hdg : decode cc pc = .ok (.getfield 13, 3)) (kk : W p l e R s m args below meth c H locs cells slots Q (F0 m (pc + 3) ls (.ref (a 4) :: rest))) : W p l e R s m args below meth c H locs cells slots Q (F0 m pc ls (.ref h :: rest)) :=
  va_get (D := D) (ci := 1) (v := .ref (a 4)) (C := RX2) (T := TX2) (N := 11) C.1 C.2.1 C.2.2.2.2.1 in_X2 C.2.2.2.1 C.2.2.2.2.2.1 I.1 0 rfl rfl 4 (by decide) (C.2.2.2.2.1 _ q232) (fun _ h9 => h9) rfl hdg kk
theorem ldM_4 (C : kC p s m args meth c cc nL RX2 D d A) (I : iG wM D d A s.heap h a f r H locs) {x v : Int32} (i : Nat) (hx : x = nI i) (hi : i < 8) (hv : r 4 i = v) (hdg : decode cc pc = .ok (.iaload, 1)) (kk : W p l e R s m args below meth c H locs cells slots Q (F0 m (pc + 1) ls (.int v :: rest))) : W p l e R s m args below meth c H locs cells slots Q (F0 m pc ls (.int x :: .ref (a 4) :: rest)) := by
  subst hx
  subst hv
  refine va_iald C.1 C.2.1 C.2.2.2.2.2.1 I.1 2 0 rfl rfl (vp_in_nI hi (by decide)) hdg ?_
  rw [nI_clamp (by omega)]
  exact kk
theorem stM_4 (C : kC p s m args meth c cc nL RX2 D d A) (I : iG wM D d A s.heap h a f r H locs) {x v : Int32} (i : Nat) (hx : x = nI i) (hi : i < 8) (hdg : decode cc pc = .ok (.iastore, 1)) (kk : ∀ (H1 : Heap) (locs1 : List Loc) (r1 : Nat → Nat → Int32), r1 4 = upd (r 4) i v → (∀ k, k ≠ 4 → r1 k = r k) → iG wM D d A s.heap h a f r1 H1 locs1 → W p l e R s m args below meth c H1 locs1 cells slots Q (F0 m (pc + 1) ls rest)) : W p l e R s m args below meth c H locs cells slots Q (F0 m pc ls (.int v :: .int x :: .ref (a 4) :: rest)) := by
  subst hx
  refine va_iast C.1 C.2.1 C.2.2.2.2.2.1 I.1 I.2.1 I.2.2 2 0 rfl rfl (vp_in_nI hi (by decide)) hdg (fun H1 l1 a1 a2 a3 => ?_)
  rw [nI_clamp (by omega)] at a1 a2
  exact kk H1 l1 (va_up r 4 (upd (r 4) i v)) (va_up_self _ _ _) (fun k hk => va_up_ne _ _ hk) ⟨a1, a2, a3⟩
theorem gM_5 (C : kC p s m args meth c cc nL RX2 D d A) (I : iG wM D d A s.heap h a f r H locs) {v : Int32} (hv : f 5 = v) (hdg : decode cc pc = .ok (.getfield 55, 3)) (kk : W p l e R s m args below meth c H locs cells slots Q (F0 m (pc + 3) ls (.int v :: rest))) : W p l e R s m args below meth c H locs cells slots Q (F0 m pc ls (.ref h :: rest)) := by
  subst hv
  exact va_get (D := D) (ci := 1) (v := .int (f 5)) (C := RX2) (T := TX2) (N := 11) C.1 C.2.1 C.2.2.2.2.1 in_X2 C.2.2.2.1 C.2.2.2.2.2.1 I.1 0 rfl rfl 5 (by decide) (C.2.2.2.2.1 _ q233) (fun _ h9 => h9) rfl hdg kk
theorem pM_5 (C : kC p s m args meth c cc nL RX2 D d A) (I : iG wM D d A s.heap h a f r H locs) {v : Int32} (hdg : decode cc pc = .ok (.putfield 55, 3)) (kk : ∀ (H1 : Heap) (locs1 : List Loc) (f1 : Nat → Int32), f1 5 = v → (∀ k, k ≠ 5 → f1 k = f k) → iG wM D d A s.heap h a f1 r H1 locs1 → W p l e R s m args below meth c H1 locs1 cells slots Q (F0 m (pc + 3) ls rest)) : W p l e R s m args below meth c H locs cells slots Q (F0 m pc ls (.int v :: .ref h :: rest)) :=
  va_put (D := D) (ci := 1) (v := .int v) (ty := .int) (C := RX2) (T := TX2) (N := 11) C.1 C.2.1 C.2.2.2.2.1 in_X2 tyX2 tyX2_ok nmX2 C.2.2.2.1 C.2.2.2.2.2.1 I.1 I.2.1 I.2.2 0 rfl rfl 5 (by decide) (C.2.2.2.2.1 _ q233) (fun _ h9 => h9) rfl (by decide +kernel) rfl rfl (Nat.le_of_ble_eq_true rfl) hdg (fun H1 l1 a1 a2 a3 => kk H1 l1 (upd f 5 v) pk_us (fun k hk => pk_un hk) ⟨a1, a2, a3⟩)
theorem gM_6 (C : kC p s m args meth c cc nL RX2 D d A) (I : iG wM D d A s.heap h a f r H locs) (hdg : decode cc pc = .ok (.getfield 16, 3)) (kk : W p l e R s m args below meth c H locs cells slots Q (F0 m (pc + 3) ls (.ref (a 6) :: rest))) : W p l e R s m args below meth c H locs cells slots Q (F0 m pc ls (.ref h :: rest)) :=
  va_get (D := D) (ci := 1) (v := .ref (a 6)) (C := RX2) (T := TX2) (N := 11) C.1 C.2.1 C.2.2.2.2.1 in_X2 C.2.2.2.1 C.2.2.2.2.2.1 I.1 0 rfl rfl 6 (by decide) (C.2.2.2.2.1 _ q234) (fun _ h9 => h9) rfl hdg kk
theorem ldM_6 (C : kC p s m args meth c cc nL RX2 D d A) (I : iG wM D d A s.heap h a f r H locs) {x v : Int32} (i : Nat) (hx : x = nI i) (hi : i < 8) (hv : r 6 i = v) (hdg : decode cc pc = .ok (.iaload, 1)) (kk : W p l e R s m args below meth c H locs cells slots Q (F0 m (pc + 1) ls (.int v :: rest))) : W p l e R s m args below meth c H locs cells slots Q (F0 m pc ls (.int x :: .ref (a 6) :: rest)) := by
  subst hx
  subst hv
  refine va_iald C.1 C.2.1 C.2.2.2.2.2.1 I.1 3 0 rfl rfl (vp_in_nI hi (by decide)) hdg ?_
  rw [nI_clamp (by omega)]
  exact kk
theorem stM_6 (C : kC p s m args meth c cc nL RX2 D d A) (I : iG wM D d A s.heap h a f r H locs) {x v : Int32} (i : Nat) (hx : x = nI i) (hi : i < 8) (hdg : decode cc pc = .ok (.iastore, 1)) (kk : ∀ (H1 : Heap) (locs1 : List Loc) (r1 : Nat → Nat → Int32), r1 6 = upd (r 6) i v → (∀ k, k ≠ 6 → r1 k = r k) → iG wM D d A s.heap h a f r1 H1 locs1 → W p l e R s m args below meth c H1 locs1 cells slots Q (F0 m (pc + 1) ls rest)) : W p l e R s m args below meth c H locs cells slots Q (F0 m pc ls (.int v :: .int x :: .ref (a 6) :: rest)) := by
  subst hx
  refine va_iast C.1 C.2.1 C.2.2.2.2.2.1 I.1 I.2.1 I.2.2 3 0 rfl rfl (vp_in_nI hi (by decide)) hdg (fun H1 l1 a1 a2 a3 => ?_)
  rw [nI_clamp (by omega)] at a1 a2
  exact kk H1 l1 (va_up r 6 (upd (r 6) i v)) (va_up_self _ _ _) (fun k hk => va_up_ne _ _ hk) ⟨a1, a2, a3⟩
theorem gM_7 (C : kC p s m args meth c cc nL RX2 D d A) (I : iG wM D d A s.heap h a f r H locs) {v : Int32} (hv : f 7 = v) (hdg : decode cc pc = .ok (.getfield 80, 3)) (kk : W p l e R s m args below meth c H locs cells slots Q (F0 m (pc + 3) ls (.int v :: rest))) : W p l e R s m args below meth c H locs cells slots Q (F0 m pc ls (.ref h :: rest)) := by
  subst hv
  exact va_get (D := D) (ci := 1) (v := .int (f 7)) (C := RX2) (T := TX2) (N := 11) C.1 C.2.1 C.2.2.2.2.1 in_X2 C.2.2.2.1 C.2.2.2.2.2.1 I.1 0 rfl rfl 7 (by decide) (C.2.2.2.2.1 _ q235) (fun _ h9 => h9) rfl hdg kk
theorem pM_7 (C : kC p s m args meth c cc nL RX2 D d A) (I : iG wM D d A s.heap h a f r H locs) {v : Int32} (hdg : decode cc pc = .ok (.putfield 80, 3)) (kk : ∀ (H1 : Heap) (locs1 : List Loc) (f1 : Nat → Int32), f1 7 = v → (∀ k, k ≠ 7 → f1 k = f k) → iG wM D d A s.heap h a f1 r H1 locs1 → W p l e R s m args below meth c H1 locs1 cells slots Q (F0 m (pc + 3) ls rest)) : W p l e R s m args below meth c H locs cells slots Q (F0 m pc ls (.int v :: .ref h :: rest)) :=
  va_put (D := D) (ci := 1) (v := .int v) (ty := .int) (C := RX2) (T := TX2) (N := 11) C.1 C.2.1 C.2.2.2.2.1 in_X2 tyX2 tyX2_ok nmX2 C.2.2.2.1 C.2.2.2.2.2.1 I.1 I.2.1 I.2.2 0 rfl rfl 7 (by decide) (C.2.2.2.2.1 _ q235) (fun _ h9 => h9) rfl (by decide +kernel) rfl rfl (Nat.le_of_ble_eq_true rfl) hdg (fun H1 l1 a1 a2 a3 => kk H1 l1 (upd f 7 v) pk_us (fun k hk => pk_un hk) ⟨a1, a2, a3⟩)
theorem gM_8 (C : kC p s m args meth c cc nL RX2 D d A) (I : iG wM D d A s.heap h a f r H locs) (hdg : decode cc pc = .ok (.getfield 19, 3)) (kk : W p l e R s m args below meth c H locs cells slots Q (F0 m (pc + 3) ls (.ref (a 8) :: rest))) : W p l e R s m args below meth c H locs cells slots Q (F0 m pc ls (.ref h :: rest)) :=
  va_get (D := D) (ci := 1) (v := .ref (a 8)) (C := RX2) (T := TX2) (N := 11) C.1 C.2.1 C.2.2.2.2.1 in_X2 C.2.2.2.1 C.2.2.2.2.2.1 I.1 0 rfl rfl 8 (by decide) (C.2.2.2.2.1 _ q236) (fun _ h9 => h9) rfl hdg kk
theorem ldM_8 (C : kC p s m args meth c cc nL RX2 D d A) (I : iG wM D d A s.heap h a f r H locs) {x v : Int32} (i : Nat) (hx : x = nI i) (hi : i < 256) (hv : r 8 i = v) (hdg : decode cc pc = .ok (.iaload, 1)) (kk : W p l e R s m args below meth c H locs cells slots Q (F0 m (pc + 1) ls (.int v :: rest))) : W p l e R s m args below meth c H locs cells slots Q (F0 m pc ls (.int x :: .ref (a 8) :: rest)) := by
  subst hx
  subst hv
  refine va_iald C.1 C.2.1 C.2.2.2.2.2.1 I.1 4 0 rfl rfl (vp_in_nI hi (by decide)) hdg ?_
  rw [nI_clamp (by omega)]
  exact kk
theorem stM_8 (C : kC p s m args meth c cc nL RX2 D d A) (I : iG wM D d A s.heap h a f r H locs) {x v : Int32} (i : Nat) (hx : x = nI i) (hi : i < 256) (hdg : decode cc pc = .ok (.iastore, 1)) (kk : ∀ (H1 : Heap) (locs1 : List Loc) (r1 : Nat → Nat → Int32), r1 8 = upd (r 8) i v → (∀ k, k ≠ 8 → r1 k = r k) → iG wM D d A s.heap h a f r1 H1 locs1 → W p l e R s m args below meth c H1 locs1 cells slots Q (F0 m (pc + 1) ls rest)) : W p l e R s m args below meth c H locs cells slots Q (F0 m pc ls (.int v :: .int x :: .ref (a 8) :: rest)) := by
  subst hx
  refine va_iast C.1 C.2.1 C.2.2.2.2.2.1 I.1 I.2.1 I.2.2 4 0 rfl rfl (vp_in_nI hi (by decide)) hdg (fun H1 l1 a1 a2 a3 => ?_)
  rw [nI_clamp (by omega)] at a1 a2
  exact kk H1 l1 (va_up r 8 (upd (r 8) i v)) (va_up_self _ _ _) (fun k hk => va_up_ne _ _ hk) ⟨a1, a2, a3⟩
theorem gM_9 (C : kC p s m args meth c cc nL RX2 D d A) (I : iG wM D d A s.heap h a f r H locs) (hdg : decode cc pc = .ok (.getfield 22, 3)) (kk : W p l e R s m args below meth c H locs cells slots Q (F0 m (pc + 3) ls (.ref (a 9) :: rest))) : W p l e R s m args below meth c H locs cells slots Q (F0 m pc ls (.ref h :: rest)) :=
  va_get (D := D) (ci := 1) (v := .ref (a 9)) (C := RX2) (T := TX2) (N := 11) C.1 C.2.1 C.2.2.2.2.1 in_X2 C.2.2.2.1 C.2.2.2.2.2.1 I.1 0 rfl rfl 9 (by decide) (C.2.2.2.2.1 _ q237) (fun _ h9 => h9) rfl hdg kk
theorem ldM_9 (C : kC p s m args meth c cc nL RX2 D d A) (I : iG wM D d A s.heap h a f r H locs) {x v : Int32} (i : Nat) (hx : x = nI i) (hi : i < 60) (hv : r 9 i = v) (hdg : decode cc pc = .ok (.iaload, 1)) (kk : W p l e R s m args below meth c H locs cells slots Q (F0 m (pc + 1) ls (.int v :: rest))) : W p l e R s m args below meth c H locs cells slots Q (F0 m pc ls (.int x :: .ref (a 9) :: rest)) := by
  subst hx
  subst hv
  refine va_iald C.1 C.2.1 C.2.2.2.2.2.1 I.1 5 0 rfl rfl (vp_in_nI hi (by decide)) hdg ?_
  rw [nI_clamp (by omega)]
  exact kk
theorem stM_9 (C : kC p s m args meth c cc nL RX2 D d A) (I : iG wM D d A s.heap h a f r H locs) {x v : Int32} (i : Nat) (hx : x = nI i) (hi : i < 60) (hdg : decode cc pc = .ok (.iastore, 1)) (kk : ∀ (H1 : Heap) (locs1 : List Loc) (r1 : Nat → Nat → Int32), r1 9 = upd (r 9) i v → (∀ k, k ≠ 9 → r1 k = r k) → iG wM D d A s.heap h a f r1 H1 locs1 → W p l e R s m args below meth c H1 locs1 cells slots Q (F0 m (pc + 1) ls rest)) : W p l e R s m args below meth c H locs cells slots Q (F0 m pc ls (.int v :: .int x :: .ref (a 9) :: rest)) := by
  subst hx
  refine va_iast C.1 C.2.1 C.2.2.2.2.2.1 I.1 I.2.1 I.2.2 5 0 rfl rfl (vp_in_nI hi (by decide)) hdg (fun H1 l1 a1 a2 a3 => ?_)
  rw [nI_clamp (by omega)] at a1 a2
  exact kk H1 l1 (va_up r 9 (upd (r 9) i v)) (va_up_self _ _ _) (fun k hk => va_up_ne _ _ hk) ⟨a1, a2, a3⟩
theorem gM_10 (C : kC p s m args meth c cc nL RX2 D d A) (I : iG wM D d A s.heap h a f r H locs) (hdg : decode cc pc = .ok (.getfield 25, 3)) (kk : W p l e R s m args below meth c H locs cells slots Q (F0 m (pc + 3) ls (.ref (a 10) :: rest))) : W p l e R s m args below meth c H locs cells slots Q (F0 m pc ls (.ref h :: rest)) :=
  va_get (D := D) (ci := 1) (v := .ref (a 10)) (C := RX2) (T := TX2) (N := 11) C.1 C.2.1 C.2.2.2.2.1 in_X2 C.2.2.2.1 C.2.2.2.2.2.1 I.1 0 rfl rfl 10 (by decide) (C.2.2.2.2.1 _ q238) (fun _ h9 => h9) rfl hdg kk
theorem ldM_10 (C : kC p s m args meth c cc nL RX2 D d A) (I : iG wM D d A s.heap h a f r H locs) {x v : Int32} (i : Nat) (hx : x = nI i) (hi : i < 6561) (hv : r 10 i = v) (hdg : decode cc pc = .ok (.iaload, 1)) (kk : W p l e R s m args below meth c H locs cells slots Q (F0 m (pc + 1) ls (.int v :: rest))) : W p l e R s m args below meth c H locs cells slots Q (F0 m pc ls (.int x :: .ref (a 10) :: rest)) := by
  subst hx
  subst hv
  refine va_iald C.1 C.2.1 C.2.2.2.2.2.1 I.1 6 0 rfl rfl (vp_in_nI hi (by decide)) hdg ?_
  rw [nI_clamp (by omega)]
  exact kk
theorem stM_10 (C : kC p s m args meth c cc nL RX2 D d A) (I : iG wM D d A s.heap h a f r H locs) {x v : Int32} (i : Nat) (hx : x = nI i) (hi : i < 6561) (hdg : decode cc pc = .ok (.iastore, 1)) (kk : ∀ (H1 : Heap) (locs1 : List Loc) (r1 : Nat → Nat → Int32), r1 10 = upd (r 10) i v → (∀ k, k ≠ 10 → r1 k = r k) → iG wM D d A s.heap h a f r1 H1 locs1 → W p l e R s m args below meth c H1 locs1 cells slots Q (F0 m (pc + 1) ls rest)) : W p l e R s m args below meth c H locs cells slots Q (F0 m pc ls (.int v :: .int x :: .ref (a 10) :: rest)) := by
  subst hx
  refine va_iast C.1 C.2.1 C.2.2.2.2.2.1 I.1 I.2.1 I.2.2 6 0 rfl rfl (vp_in_nI hi (by decide)) hdg (fun H1 l1 a1 a2 a3 => ?_)
  rw [nI_clamp (by omega)] at a1 a2
  exact kk H1 l1 (va_up r 10 (upd (r 10) i v)) (va_up_self _ _ _) (fun k hk => va_up_ne _ _ hk) ⟨a1, a2, a3⟩
theorem w_top {x v : Int32} (h : x = v) (kk : W p l e R s m args below meth c H locs cells slots Q (F0 m pc ls (.int v :: rest))) : W p l e R s m args below meth c H locs cells slots Q (F0 m pc ls (.int x :: rest)) := by
  rw [h]; exact kk
theorem n_add (hx : p.tables.exec = Jvm.exec) (hb : c.code = cc) {x y : Nat} (hdg : decode cc pc = .ok (.iadd, 1)) (kk : W p l e R s m args below meth c H locs cells slots Q (F0 m (pc + 1) ls (.int (nI (x + y)) :: rest))) : W p l e R s m args below meth c H locs cells slots Q (F0 m pc ls (.int (nI y) :: .int (nI x) :: rest)) := lv_iadd hx hb hdg (by rw [nI_add]; exact kk)
theorem n_mul (hx : p.tables.exec = Jvm.exec) (hb : c.code = cc) {x y : Nat} (hdg : decode cc pc = .ok (.imul, 1)) (kk : W p l e R s m args below meth c H locs cells slots Q (F0 m (pc + 1) ls (.int (nI (x * y)) :: rest))) : W p l e R s m args below meth c H locs cells slots Q (F0 m pc ls (.int (nI y) :: .int (nI x) :: rest)) := lv_imul hx hb hdg (by rw [pk_mul]; exact kk)
theorem n_sub (hx : p.tables.exec = Jvm.exec) (hb : c.code = cc) {x y : Nat} (h : y ≤ x) (hdg : decode cc pc = .ok (.isub, 1)) (kk : W p l e R s m args below meth c H locs cells slots Q (F0 m (pc + 1) ls (.int (nI (x - y)) :: rest))) : W p l e R s m args below meth c H locs cells slots Q (F0 m pc ls (.int (nI y) :: .int (nI x) :: rest)) := lv_isub hx hb hdg (by rw [pk_sub h]; exact kk)
theorem n_div (hx : p.tables.exec = Jvm.exec) (hb : c.code = cc) {x y : Nat} (h1 : x < 2 ^ 31) (h0 : 0 < y) (h2 : y < 2 ^ 31) (hdg : decode cc pc = .ok (.idiv, 1)) (kk : W p l e R s m args below meth c H locs cells slots Q (F0 m (pc + 1) ls (.int (nI (x / y)) :: rest))) : W p l e R s m args below meth c H locs cells slots Q (F0 m pc ls (.int (nI y) :: .int (nI x) :: rest)) := lv_idiv hx hb hdg (nI_ne0 h0 h2) (by rw [pk_div h1 h0 h2]; exact kk)
theorem n_rem (hx : p.tables.exec = Jvm.exec) (hb : c.code = cc) {x y : Nat} (h1 : x < 2 ^ 31) (h0 : 0 < y) (h2 : y < 2 ^ 31) (hdg : decode cc pc = .ok (.irem, 1)) (kk : W p l e R s m args below meth c H locs cells slots Q (F0 m (pc + 1) ls (.int (nI (x % y)) :: rest))) : W p l e R s m args below meth c H locs cells slots Q (F0 m pc ls (.int (nI y) :: .int (nI x) :: rest)) := lv_irem hx hb hdg (nI_ne0 h0 h2) (by rw [pk_rem h1 h0 h2]; exact kk)
theorem n_iceq (hx : p.tables.exec = Jvm.exec) (hb : c.code = cc) {x y : Nat} {off : Int} {tgt : Nat} (h1 : x < 2 ^ 31) (h2 : y < 2 ^ 31) (hdg : decode cc pc = .ok (.if_icmp .eq off, 3)) (ht : (pc : Int) + off = (tgt : Int)) (kt : x = y → W p l e R s m args below meth c H locs cells slots Q (F0 m tgt ls rest)) (kf : x ≠ y → W p l e R s m args below meth c H locs cells slots Q (F0 m (pc + 3) ls rest)) : W p l e R s m args below meth c H locs cells slots Q (F0 m pc ls (.int (nI y) :: .int (nI x) :: rest)) := lv_icmp_eq hx hb hdg ht (fun q => kt ((nI_eq h1 h2).mp q)) (fun q => kf (fun z => q ((nI_eq h1 h2).mpr z)))
theorem n_icne (hx : p.tables.exec = Jvm.exec) (hb : c.code = cc) {x y : Nat} {off : Int} {tgt : Nat} (h1 : x < 2 ^ 31) (h2 : y < 2 ^ 31) (hdg : decode cc pc = .ok (.if_icmp .ne off, 3)) (ht : (pc : Int) + off = (tgt : Int)) (kt : x ≠ y → W p l e R s m args below meth c H locs cells slots Q (F0 m tgt ls rest)) (kf : x = y → W p l e R s m args below meth c H locs cells slots Q (F0 m (pc + 3) ls rest)) : W p l e R s m args below meth c H locs cells slots Q (F0 m pc ls (.int (nI y) :: .int (nI x) :: rest)) := lv_icmp_ne hx hb hdg ht (fun q => kt (fun z => q ((nI_eq h1 h2).mpr z))) (fun q => kf ((nI_eq h1 h2).mp q))
theorem n_iclt (hx : p.tables.exec = Jvm.exec) (hb : c.code = cc) {x y : Nat} {off : Int} {tgt : Nat} (h1 : x < 2 ^ 31) (h2 : y < 2 ^ 31) (hdg : decode cc pc = .ok (.if_icmp .lt off, 3)) (ht : (pc : Int) + off = (tgt : Int)) (kt : x < y → W p l e R s m args below meth c H locs cells slots Q (F0 m tgt ls rest)) (kf : y ≤ x → W p l e R s m args below meth c H locs cells slots Q (F0 m (pc + 3) ls rest)) : W p l e R s m args below meth c H locs cells slots Q (F0 m pc ls (.int (nI y) :: .int (nI x) :: rest)) := lv_icmp_lt hx hb hdg ht (fun q => kt ((nI_ltI h1 h2).mp q)) (fun q => kf (by have := mt (nI_ltI h1 h2).mpr q; omega))
theorem n_icge (hx : p.tables.exec = Jvm.exec) (hb : c.code = cc) {x y : Nat} {off : Int} {tgt : Nat} (h1 : x < 2 ^ 31) (h2 : y < 2 ^ 31) (hdg : decode cc pc = .ok (.if_icmp .ge off, 3)) (ht : (pc : Int) + off = (tgt : Int)) (kt : y ≤ x → W p l e R s m args below meth c H locs cells slots Q (F0 m tgt ls rest)) (kf : x < y → W p l e R s m args below meth c H locs cells slots Q (F0 m (pc + 3) ls rest)) : W p l e R s m args below meth c H locs cells slots Q (F0 m pc ls (.int (nI y) :: .int (nI x) :: rest)) := lv_icmp_ge hx hb hdg ht (fun q => kt ((nI_leI h2 h1).mp q)) (fun q => kf (by have := mt (nI_leI h2 h1).mpr q; omega))
theorem n_icgt (hx : p.tables.exec = Jvm.exec) (hb : c.code = cc) {x y : Nat} {off : Int} {tgt : Nat} (h1 : x < 2 ^ 31) (h2 : y < 2 ^ 31) (hdg : decode cc pc = .ok (.if_icmp .gt off, 3)) (ht : (pc : Int) + off = (tgt : Int)) (kt : y < x → W p l e R s m args below meth c H locs cells slots Q (F0 m tgt ls rest)) (kf : x ≤ y → W p l e R s m args below meth c H locs cells slots Q (F0 m (pc + 3) ls rest)) : W p l e R s m args below meth c H locs cells slots Q (F0 m pc ls (.int (nI y) :: .int (nI x) :: rest)) := lv_icmp_gt hx hb hdg ht (fun q => kt ((nI_ltI h2 h1).mp q)) (fun q => kf (by have := mt (nI_ltI h2 h1).mpr q; omega))
theorem n_icle (hx : p.tables.exec = Jvm.exec) (hb : c.code = cc) {x y : Nat} {off : Int} {tgt : Nat} (h1 : x < 2 ^ 31) (h2 : y < 2 ^ 31) (hdg : decode cc pc = .ok (.if_icmp .le off, 3)) (ht : (pc : Int) + off = (tgt : Int)) (kt : x ≤ y → W p l e R s m args below meth c H locs cells slots Q (F0 m tgt ls rest)) (kf : y < x → W p l e R s m args below meth c H locs cells slots Q (F0 m (pc + 3) ls rest)) : W p l e R s m args below meth c H locs cells slots Q (F0 m pc ls (.int (nI y) :: .int (nI x) :: rest)) := lv_icmp_le hx hb hdg ht (fun q => kt ((nI_leI h1 h2).mp q)) (fun q => kf (by have := mt (nI_leI h1 h2).mpr q; omega))
theorem n_ifeq (hx : p.tables.exec = Jvm.exec) (hb : c.code = cc) {x : Nat} {off : Int} {tgt : Nat} (h1 : x < 2 ^ 31) (hdg : decode cc pc = .ok (.ifCond .eq off, 3)) (ht : (pc : Int) + off = (tgt : Int)) (kt : x = 0 → W p l e R s m args below meth c H locs cells slots Q (F0 m tgt ls rest)) (kf : x ≠ 0 → W p l e R s m args below meth c H locs cells slots Q (F0 m (pc + 3) ls rest)) : W p l e R s m args below meth c H locs cells slots Q (F0 m pc ls (.int (nI x) :: rest)) := lv_if_eq hx hb hdg ht (fun q => kt ((nI_eq h1 (by decide)).mp (q.trans nI_0.symm))) (fun q => kf (fun z => q (by rw [z]; exact nI_0)))
theorem n_ifne (hx : p.tables.exec = Jvm.exec) (hb : c.code = cc) {x : Nat} {off : Int} {tgt : Nat} (h1 : x < 2 ^ 31) (hdg : decode cc pc = .ok (.ifCond .ne off, 3)) (ht : (pc : Int) + off = (tgt : Int)) (kt : x ≠ 0 → W p l e R s m args below meth c H locs cells slots Q (F0 m tgt ls rest)) (kf : x = 0 → W p l e R s m args below meth c H locs cells slots Q (F0 m (pc + 3) ls rest)) : W p l e R s m args below meth c H locs cells slots Q (F0 m pc ls (.int (nI x) :: rest)) := lv_if_ne hx hb hdg ht (fun q => kt (fun z => q (by rw [z]; exact nI_0))) (fun q => kf ((nI_eq h1 (by decide)).mp (q.trans nI_0.symm)))
theorem n_iflt (hx : p.tables.exec = Jvm.exec) (hb : c.code = cc) {x : Nat} {off : Int} {tgt : Nat} (h1 : x < 2 ^ 31) (hdg : decode cc pc = .ok (.ifCond .lt off, 3)) (ht : (pc : Int) + off = (tgt : Int)) (kt : False → W p l e R s m args below meth c H locs cells slots Q (F0 m tgt ls rest)) (kf : True → W p l e R s m args below meth c H locs cells slots Q (F0 m (pc + 3) ls rest)) : W p l e R s m args below meth c H locs cells slots Q (F0 m pc ls (.int (nI x) :: rest)) := lv_if_lt hx hb hdg ht (fun q => kt (nI_pos h1 q)) (fun _ => kf trivial)
theorem n_ifge (hx : p.tables.exec = Jvm.exec) (hb : c.code = cc) {x : Nat} {off : Int} {tgt : Nat} (h1 : x < 2 ^ 31) (hdg : decode cc pc = .ok (.ifCond .ge off, 3)) (ht : (pc : Int) + off = (tgt : Int)) (kt : True → W p l e R s m args below meth c H locs cells slots Q (F0 m tgt ls rest)) (kf : False → W p l e R s m args below meth c H locs cells slots Q (F0 m (pc + 3) ls rest)) : W p l e R s m args below meth c H locs cells slots Q (F0 m pc ls (.int (nI x) :: rest)) := lv_if_ge hx hb hdg ht (fun _ => kt trivial) (fun q => kf (q (nI_pos' h1)))
theorem n_ifgt (hx : p.tables.exec = Jvm.exec) (hb : c.code = cc) {x : Nat} {off : Int} {tgt : Nat} (h1 : x < 2 ^ 31) (hdg : decode cc pc = .ok (.ifCond .gt off, 3)) (ht : (pc : Int) + off = (tgt : Int)) (kt : 0 < x → W p l e R s m args below meth c H locs cells slots Q (F0 m tgt ls rest)) (kf : x = 0 → W p l e R s m args below meth c H locs cells slots Q (F0 m (pc + 3) ls rest)) : W p l e R s m args below meth c H locs cells slots Q (F0 m pc ls (.int (nI x) :: rest)) := lv_if_gt hx hb hdg ht (fun q => kt (by have := (nI_ltI (a := 0) (by decide) h1).mp (by rw [nI_0]; exact q); omega)) (fun q => kf (by have := mt (nI_ltI (a := 0) (b := x) (by decide) h1).mpr (by rw [nI_0]; exact q); omega))
theorem n_ifle (hx : p.tables.exec = Jvm.exec) (hb : c.code = cc) {x : Nat} {off : Int} {tgt : Nat} (h1 : x < 2 ^ 31) (hdg : decode cc pc = .ok (.ifCond .le off, 3)) (ht : (pc : Int) + off = (tgt : Int)) (kt : x = 0 → W p l e R s m args below meth c H locs cells slots Q (F0 m tgt ls rest)) (kf : 0 < x → W p l e R s m args below meth c H locs cells slots Q (F0 m (pc + 3) ls rest)) : W p l e R s m args below meth c H locs cells slots Q (F0 m pc ls (.int (nI x) :: rest)) := lv_if_le hx hb hdg ht (fun q => kt (by have := (nI_leI (b := 0) h1 (by decide)).mp (by rw [nI_0]; exact q); omega)) (fun q => kf (by have := mt (nI_leI (a := x) (b := 0) h1 (by decide)).mpr (by rw [nI_0]; exact q); omega))
end ROWS
/-- rooms by depth of calls -/
abbrev rmK (k : Nat) : Room := { frames := k, cells := 0, slots := 0, locals := 30 * k }
theorem cwL_Xcodes : GoodIn lw_all (wsV RX0 21 RX1 yX1_codes (ws_ yX1_codes cX1_codes 1 (some .int))) := lw_V q94 q95 q96 q28 q97
theorem cdX_codes : yX1_codes.cls = RX1 ∧ yX1_codes.cls ≠ "java/lang/invoke/MethodHandle" ∧ yX1_codes.cls ≠ "java/lang/invoke/VarHandle" ∧ (parseMethodDescriptor yX1_codes.desc).map (fun d => d.parameters.length) = some 0 := by decide +kernel
theorem cwL_Xanswer : GoodIn lw_all (wsV RX0 26 RX1 yX1_answer (ws_ yX1_answer cX1_answer 3 (some .int))) := lw_V q98 q99 q100 q28 q101
theorem cdX_answer : yX1_answer.cls = RX1 ∧ yX1_answer.cls ≠ "java/lang/invoke/MethodHandle" ∧ yX1_answer.cls ≠ "java/lang/invoke/VarHandle" ∧ (parseMethodDescriptor yX1_answer.desc).map (fun d => d.parameters.length) = some 2 := by decide +kernel
theorem cwL_Xtell : GoodIn lw_all (wsV RX0 31 RX1 yX1_tell (ws_ yX1_tell cX1_tell 4 (some .int))) := lw_V q110 q111 q112 q28 q113
theorem cdX_tell : yX1_tell.cls = RX1 ∧ yX1_tell.cls ≠ "java/lang/invoke/MethodHandle" ∧ yX1_tell.cls ≠ "java/lang/invoke/VarHandle" ∧ (parseMethodDescriptor yX1_tell.desc).map (fun d => d.parameters.length) = some 3 := by decide +kernel
theorem cwL_Xforget : GoodIn lw_all (wsV RX0 36 RX1 yX1_forget (ws_ yX1_forget cX1_forget 1 (some .int))) := lw_V q122 q123 q124 q28 q125
theorem cdX_forget : yX1_forget.cls = RX1 ∧ yX1_forget.cls ≠ "java/lang/invoke/MethodHandle" ∧ yX1_forget.cls ≠ "java/lang/invoke/VarHandle" ∧ (parseMethodDescriptor yX1_forget.desc).map (fun d => d.parameters.length) = some 0 := by decide +kernel
theorem cwL_Xtold : GoodIn lw_all (wsV RX0 40 RX1 yX1_told (ws_ yX1_told cX1_told 1 (some .int))) := lw_V q126 q127 q128 q28 q129
theorem cdX_told : yX1_told.cls = RX1 ∧ yX1_told.cls ≠ "java/lang/invoke/MethodHandle" ∧ yX1_told.cls ≠ "java/lang/invoke/VarHandle" ∧ (parseMethodDescriptor yX1_told.desc).map (fun d => d.parameters.length) = some 0 := by decide +kernel
theorem cwL_Xpossible : GoodIn lw_all (wsV RX0 44 RX1 yX1_possible (ws_ yX1_possible cX1_possible 1 (some .int))) := lw_V q130 q131 q132 q28 q133
theorem cdX_possible : yX1_possible.cls = RX1 ∧ yX1_possible.cls ≠ "java/lang/invoke/MethodHandle" ∧ yX1_possible.cls ≠ "java/lang/invoke/VarHandle" ∧ (parseMethodDescriptor yX1_possible.desc).map (fun d => d.parameters.length) = some 0 := by decide +kernel
theorem cwL_Xcode : GoodIn lw_all (wsV RX0 48 RX1 yX1_code (ws_ yX1_code cX1_code 4 (some .int))) := lw_V q134 q135 q136 q28 q137
theorem cdX_code : yX1_code.cls = RX1 ∧ yX1_code.cls ≠ "java/lang/invoke/MethodHandle" ∧ yX1_code.cls ≠ "java/lang/invoke/VarHandle" ∧ (parseMethodDescriptor yX1_code.desc).map (fun d => d.parameters.length) = some 1 := by decide +kernel
theorem cwL_XcanBe : GoodIn lw_all (wsV RX0 53 RX1 yX1_canBe (ws_ yX1_canBe cX1_canBe 2 (some .boolean))) := lw_V q138 q139 q140 q28 q141
theorem cdX_canBe : yX1_canBe.cls = RX1 ∧ yX1_canBe.cls ≠ "java/lang/invoke/MethodHandle" ∧ yX1_canBe.cls ≠ "java/lang/invoke/VarHandle" ∧ (parseMethodDescriptor yX1_canBe.desc).map (fun d => d.parameters.length) = some 1 := by decide +kernel
theorem cwL_Xparts : GoodIn lw_all (wsV RX0 58 RX1 yX1_parts (ws_ yX1_parts cX1_parts 2 (some .int))) := lw_V q142 q143 q144 q28 q145
theorem cdX_parts : yX1_parts.cls = RX1 ∧ yX1_parts.cls ≠ "java/lang/invoke/MethodHandle" ∧ yX1_parts.cls ≠ "java/lang/invoke/VarHandle" ∧ (parseMethodDescriptor yX1_parts.desc).map (fun d => d.parameters.length) = some 1 := by decide +kernel
theorem cwL_Xworst : GoodIn lw_all (wsV RX0 62 RX1 yX1_worst (ws_ yX1_worst cX1_worst 2 (some .int))) := lw_V q150 q151 q152 q28 q153
theorem cdX_worst : yX1_worst.cls = RX1 ∧ yX1_worst.cls ≠ "java/lang/invoke/MethodHandle" ∧ yX1_worst.cls ≠ "java/lang/invoke/VarHandle" ∧ (parseMethodDescriptor yX1_worst.desc).map (fun d => d.parameters.length) = some 1 := by decide +kernel
theorem cwL_Xweight : GoodIn lw_all (wsV RX0 66 RX1 yX1_weight (ws_ yX1_weight cX1_weight 2 (some .int))) := lw_V q154 q155 q156 q28 q157
theorem cdX_weight : yX1_weight.cls = RX1 ∧ yX1_weight.cls ≠ "java/lang/invoke/MethodHandle" ∧ yX1_weight.cls ≠ "java/lang/invoke/VarHandle" ∧ (parseMethodDescriptor yX1_weight.desc).map (fun d => d.parameters.length) = some 1 := by decide +kernel
theorem cwL_Xsafest : GoodIn lw_all (wsV RX0 70 RX1 yX1_safest (ws_ yX1_safest cX1_safest 1 (some .int))) := lw_V q158 q159 q160 q28 q161
theorem cdX_safest : yX1_safest.cls = RX1 ∧ yX1_safest.cls ≠ "java/lang/invoke/MethodHandle" ∧ yX1_safest.cls ≠ "java/lang/invoke/VarHandle" ∧ (parseMethodDescriptor yX1_safest.desc).map (fun d => d.parameters.length) = some 0 := by decide +kernel
theorem cwL_Xsharpest : GoodIn lw_all (wsV RX0 74 RX1 yX1_sharpest (ws_ yX1_sharpest cX1_sharpest 1 (some .int))) := lw_V q167 q168 q169 q28 q170
theorem cdX_sharpest : yX1_sharpest.cls = RX1 ∧ yX1_sharpest.cls ≠ "java/lang/invoke/MethodHandle" ∧ yX1_sharpest.cls ≠ "java/lang/invoke/VarHandle" ∧ (parseMethodDescriptor yX1_sharpest.desc).map (fun d => d.parameters.length) = some 0 := by decide +kernel
theorem cwL_Xneed : GoodIn lw_all (wsV RX0 78 RX1 yX1_need (ws_ yX1_need cX1_need 1 (some .int))) := lw_V q171 q172 q173 q28 q174
theorem cdX_need : yX1_need.cls = RX1 ∧ yX1_need.cls ≠ "java/lang/invoke/MethodHandle" ∧ yX1_need.cls ≠ "java/lang/invoke/VarHandle" ∧ (parseMethodDescriptor yX1_need.desc).map (fun d => d.parameters.length) = some 0 := by decide +kernel
theorem cwL_XneedKept : GoodIn lw_all (wsV RX0 82 RX1 yX1_needKept (ws_ yX1_needKept cX1_needKept 1 (some .int))) := lw_V q195 q196 q197 q28 q198
theorem cdX_needKept : yX1_needKept.cls = RX1 ∧ yX1_needKept.cls ≠ "java/lang/invoke/MethodHandle" ∧ yX1_needKept.cls ≠ "java/lang/invoke/VarHandle" ∧ (parseMethodDescriptor yX1_needKept.desc).map (fun d => d.parameters.length) = some 0 := by decide +kernel
theorem cwL_Xfirst : GoodIn lw_all (wsV RX0 86 RX1 yX1_first (ws_ yX1_first cX1_first 4 (some .int))) := lw_V q199 q200 q201 q28 q202
theorem cdX_first : yX1_first.cls = RX1 ∧ yX1_first.cls ≠ "java/lang/invoke/MethodHandle" ∧ yX1_first.cls ≠ "java/lang/invoke/VarHandle" ∧ (parseMethodDescriptor yX1_first.desc).map (fun d => d.parameters.length) = some 0 := by decide +kernel
theorem cwL_Xuseful : GoodIn lw_all (wsV RX0 90 RX1 yX1_useful (ws_ yX1_useful cX1_useful 6 (some .int))) := lw_V q203 q204 q205 q28 q206
theorem cdX_useful : yX1_useful.cls = RX1 ∧ yX1_useful.cls ≠ "java/lang/invoke/MethodHandle" ∧ yX1_useful.cls ≠ "java/lang/invoke/VarHandle" ∧ (parseMethodDescriptor yX1_useful.desc).map (fun d => d.parameters.length) = some 0 := by decide +kernel
theorem cwL_Mcodes : GoodIn lw_all (wsV RX0 25 RX2 yX2_codes (ws_ yX2_codes cX2_codes 1 (some .int))) := lw_V q262 q263 q264 q29 q265
theorem cdM_codes : yX2_codes.cls = RX2 ∧ yX2_codes.cls ≠ "java/lang/invoke/MethodHandle" ∧ yX2_codes.cls ≠ "java/lang/invoke/VarHandle" ∧ (parseMethodDescriptor yX2_codes.desc).map (fun d => d.parameters.length) = some 0 := by decide +kernel
theorem cwL_Manswer : GoodIn lw_all (wsV RX0 30 RX2 yX2_answer (ws_ yX2_answer cX2_answer 3 (some .int))) := lw_V q266 q267 q268 q29 q269
theorem cdM_answer : yX2_answer.cls = RX2 ∧ yX2_answer.cls ≠ "java/lang/invoke/MethodHandle" ∧ yX2_answer.cls ≠ "java/lang/invoke/VarHandle" ∧ (parseMethodDescriptor yX2_answer.desc).map (fun d => d.parameters.length) = some 2 := by decide +kernel
theorem cwL_Mtell : GoodIn lw_all (wsV RX0 35 RX2 yX2_tell (ws_ yX2_tell cX2_tell 4 (some .int))) := lw_V q278 q279 q280 q29 q281
theorem cdM_tell : yX2_tell.cls = RX2 ∧ yX2_tell.cls ≠ "java/lang/invoke/MethodHandle" ∧ yX2_tell.cls ≠ "java/lang/invoke/VarHandle" ∧ (parseMethodDescriptor yX2_tell.desc).map (fun d => d.parameters.length) = some 3 := by decide +kernel
theorem cwL_Mforget : GoodIn lw_all (wsV RX0 39 RX2 yX2_forget (ws_ yX2_forget cX2_forget 1 (some .int))) := lw_V q290 q291 q292 q29 q293
theorem cdM_forget : yX2_forget.cls = RX2 ∧ yX2_forget.cls ≠ "java/lang/invoke/MethodHandle" ∧ yX2_forget.cls ≠ "java/lang/invoke/VarHandle" ∧ (parseMethodDescriptor yX2_forget.desc).map (fun d => d.parameters.length) = some 0 := by decide +kernel
theorem cwL_Mtold : GoodIn lw_all (wsV RX0 43 RX2 yX2_told (ws_ yX2_told cX2_told 1 (some .int))) := lw_V q294 q295 q296 q29 q297
theorem cdM_told : yX2_told.cls = RX2 ∧ yX2_told.cls ≠ "java/lang/invoke/MethodHandle" ∧ yX2_told.cls ≠ "java/lang/invoke/VarHandle" ∧ (parseMethodDescriptor yX2_told.desc).map (fun d => d.parameters.length) = some 0 := by decide +kernel
theorem cwL_Mpossible : GoodIn lw_all (wsV RX0 47 RX2 yX2_possible (ws_ yX2_possible cX2_possible 1 (some .int))) := lw_V q298 q299 q300 q29 q301
theorem cdM_possible : yX2_possible.cls = RX2 ∧ yX2_possible.cls ≠ "java/lang/invoke/MethodHandle" ∧ yX2_possible.cls ≠ "java/lang/invoke/VarHandle" ∧ (parseMethodDescriptor yX2_possible.desc).map (fun d => d.parameters.length) = some 0 := by decide +kernel
theorem cwL_Mcode : GoodIn lw_all (wsV RX0 52 RX2 yX2_code (ws_ yX2_code cX2_code 4 (some .int))) := lw_V q302 q303 q304 q29 q305
theorem cdM_code : yX2_code.cls = RX2 ∧ yX2_code.cls ≠ "java/lang/invoke/MethodHandle" ∧ yX2_code.cls ≠ "java/lang/invoke/VarHandle" ∧ (parseMethodDescriptor yX2_code.desc).map (fun d => d.parameters.length) = some 1 := by decide +kernel
theorem cwL_McanBe : GoodIn lw_all (wsV RX0 57 RX2 yX2_canBe (ws_ yX2_canBe cX2_canBe 2 (some .boolean))) := lw_V q306 q307 q308 q29 q309
theorem cdM_canBe : yX2_canBe.cls = RX2 ∧ yX2_canBe.cls ≠ "java/lang/invoke/MethodHandle" ∧ yX2_canBe.cls ≠ "java/lang/invoke/VarHandle" ∧ (parseMethodDescriptor yX2_canBe.desc).map (fun d => d.parameters.length) = some 1 := by decide +kernel
theorem cwL_Mparts : GoodIn lw_all (wsV RX0 61 RX2 yX2_parts (ws_ yX2_parts cX2_parts 4 (some .int))) := lw_V q310 q311 q312 q29 q313
theorem cdM_parts : yX2_parts.cls = RX2 ∧ yX2_parts.cls ≠ "java/lang/invoke/MethodHandle" ∧ yX2_parts.cls ≠ "java/lang/invoke/VarHandle" ∧ (parseMethodDescriptor yX2_parts.desc).map (fun d => d.parameters.length) = some 1 := by decide +kernel
theorem cwL_Mworst : GoodIn lw_all (wsV RX0 65 RX2 yX2_worst (ws_ yX2_worst cX2_worst 2 (some .int))) := lw_V q318 q319 q320 q29 q321
theorem cdM_worst : yX2_worst.cls = RX2 ∧ yX2_worst.cls ≠ "java/lang/invoke/MethodHandle" ∧ yX2_worst.cls ≠ "java/lang/invoke/VarHandle" ∧ (parseMethodDescriptor yX2_worst.desc).map (fun d => d.parameters.length) = some 1 := by decide +kernel
theorem cwL_Mweight : GoodIn lw_all (wsV RX0 69 RX2 yX2_weight (ws_ yX2_weight cX2_weight 2 (some .int))) := lw_V q326 q327 q328 q29 q329
theorem cdM_weight : yX2_weight.cls = RX2 ∧ yX2_weight.cls ≠ "java/lang/invoke/MethodHandle" ∧ yX2_weight.cls ≠ "java/lang/invoke/VarHandle" ∧ (parseMethodDescriptor yX2_weight.desc).map (fun d => d.parameters.length) = some 1 := by decide +kernel
theorem cwL_Msafest : GoodIn lw_all (wsV RX0 73 RX2 yX2_safest (ws_ yX2_safest cX2_safest 1 (some .int))) := lw_V q334 q335 q336 q29 q337
theorem cdM_safest : yX2_safest.cls = RX2 ∧ yX2_safest.cls ≠ "java/lang/invoke/MethodHandle" ∧ yX2_safest.cls ≠ "java/lang/invoke/VarHandle" ∧ (parseMethodDescriptor yX2_safest.desc).map (fun d => d.parameters.length) = some 0 := by decide +kernel
theorem cwL_Msharpest : GoodIn lw_all (wsV RX0 77 RX2 yX2_sharpest (ws_ yX2_sharpest cX2_sharpest 1 (some .int))) := lw_V q342 q343 q344 q29 q345
theorem cdM_sharpest : yX2_sharpest.cls = RX2 ∧ yX2_sharpest.cls ≠ "java/lang/invoke/MethodHandle" ∧ yX2_sharpest.cls ≠ "java/lang/invoke/VarHandle" ∧ (parseMethodDescriptor yX2_sharpest.desc).map (fun d => d.parameters.length) = some 0 := by decide +kernel
theorem cwL_Mneed : GoodIn lw_all (wsV RX0 81 RX2 yX2_need (ws_ yX2_need cX2_need 1 (some .int))) := lw_V q346 q347 q348 q29 q349
theorem cdM_need : yX2_need.cls = RX2 ∧ yX2_need.cls ≠ "java/lang/invoke/MethodHandle" ∧ yX2_need.cls ≠ "java/lang/invoke/VarHandle" ∧ (parseMethodDescriptor yX2_need.desc).map (fun d => d.parameters.length) = some 0 := by decide +kernel
theorem cwL_MneedKept : GoodIn lw_all (wsV RX0 85 RX2 yX2_needKept (ws_ yX2_needKept cX2_needKept 1 (some .int))) := lw_V q370 q371 q372 q29 q373
theorem cdM_needKept : yX2_needKept.cls = RX2 ∧ yX2_needKept.cls ≠ "java/lang/invoke/MethodHandle" ∧ yX2_needKept.cls ≠ "java/lang/invoke/VarHandle" ∧ (parseMethodDescriptor yX2_needKept.desc).map (fun d => d.parameters.length) = some 0 := by decide +kernel
theorem cwL_Mfirst : GoodIn lw_all (wsV RX0 89 RX2 yX2_first (ws_ yX2_first cX2_first 3 (some .int))) := lw_V q374 q375 q376 q29 q377
theorem cdM_first : yX2_first.cls = RX2 ∧ yX2_first.cls ≠ "java/lang/invoke/MethodHandle" ∧ yX2_first.cls ≠ "java/lang/invoke/VarHandle" ∧ (parseMethodDescriptor yX2_first.desc).map (fun d => d.parameters.length) = some 0 := by decide +kernel
theorem cwL_Museful : GoodIn lw_all (wsV RX0 93 RX2 yX2_useful (ws_ yX2_useful cX2_useful 4 (some .int))) := lw_V q378 q379 q380 q29 q381
theorem cdM_useful : yX2_useful.cls = RX2 ∧ yX2_useful.cls ≠ "java/lang/invoke/MethodHandle" ∧ yX2_useful.cls ≠ "java/lang/invoke/VarHandle" ∧ (parseMethodDescriptor yX2_useful.desc).map (fun d => d.parameters.length) = some 0 := by decide +kernel
theorem cwX_XbadCode : GoodIn lw_all (wsV RX1 50 RX1 yX1_badCode (ws_ yX1_badCode cX1_badCode 2 (some .boolean))) := lw_V q102 q104 qs0 q28 q105
theorem cdX_badCode : yX1_badCode.cls = RX1 ∧ yX1_badCode.cls ≠ "java/lang/invoke/MethodHandle" ∧ yX1_badCode.cls ≠ "java/lang/invoke/VarHandle" ∧ (parseMethodDescriptor yX1_badCode.desc).map (fun d => d.parameters.length) = some 1 := by decide +kernel
theorem cwX_XanswerTo : GoodIn lw_all (wsV RX1 54 RX1 yX1_answerTo (ws_ yX1_answerTo cX1_answerTo 8 (some .int))) := lw_V q106 q108 qs1 q28 q109
theorem cdX_answerTo : yX1_answerTo.cls = RX1 ∧ yX1_answerTo.cls ≠ "java/lang/invoke/MethodHandle" ∧ yX1_answerTo.cls ≠ "java/lang/invoke/VarHandle" ∧ (parseMethodDescriptor yX1_answerTo.desc).map (fun d => d.parameters.length) = some 2 := by decide +kernel
theorem cwX_Xweigh : GoodIn lw_all (wsV RX1 61 RX1 yX1_weigh (ws_ yX1_weigh cX1_weigh 5 none)) := lw_V q114 q116 qs2 q28 q117
theorem cdX_weigh : yX1_weigh.cls = RX1 ∧ yX1_weigh.cls ≠ "java/lang/invoke/MethodHandle" ∧ yX1_weigh.cls ≠ "java/lang/invoke/VarHandle" ∧ (parseMethodDescriptor yX1_weigh.desc).map (fun d => d.parameters.length) = some 2 := by decide +kernel
theorem cwX_XcountPossible : GoodIn lw_all (wsV RX1 65 RX1 yX1_countPossible (ws_ yX1_countPossible cX1_countPossible 3 (some .int))) := lw_V q118 q120 qs3 q28 q121
theorem cdX_countPossible : yX1_countPossible.cls = RX1 ∧ yX1_countPossible.cls ≠ "java/lang/invoke/MethodHandle" ∧ yX1_countPossible.cls ≠ "java/lang/invoke/VarHandle" ∧ (parseMethodDescriptor yX1_countPossible.desc).map (fun d => d.parameters.length) = some 0 := by decide +kernel
theorem cwX_XpartBy : GoodIn lw_all (wsV RX1 78 RX1 yX1_partBy (ws_ yX1_partBy cX1_partBy 4 none)) := lw_V q146 q148 qs4 q28 q149
theorem cdX_partBy : yX1_partBy.cls = RX1 ∧ yX1_partBy.cls ≠ "java/lang/invoke/MethodHandle" ∧ yX1_partBy.cls ≠ "java/lang/invoke/VarHandle" ∧ (parseMethodDescriptor yX1_partBy.desc).map (fun d => d.parameters.length) = some 1 := by decide +kernel
theorem cwX_XbestBy : GoodIn lw_all (wsV RX1 83 RX1 yX1_bestBy (ws_ yX1_bestBy cX1_bestBy 6 (some .int))) := lw_V q162 q164 qs5 q28 q165
theorem cdX_bestBy : yX1_bestBy.cls = RX1 ∧ yX1_bestBy.cls ≠ "java/lang/invoke/MethodHandle" ∧ yX1_bestBy.cls ≠ "java/lang/invoke/VarHandle" ∧ (parseMethodDescriptor yX1_bestBy.desc).map (fun d => d.parameters.length) = some 1 := by decide +kernel
theorem cwX_XneedBy : GoodIn lw_all (wsV RX1 104 RX1 yX1_needBy (ws_ yX1_needBy cX1_needBy 3 (some .int))) := lw_V q175 q177 qs6 q28 q178
theorem cdX_needBy : yX1_needBy.cls = RX1 ∧ yX1_needBy.cls ≠ "java/lang/invoke/MethodHandle" ∧ yX1_needBy.cls ≠ "java/lang/invoke/VarHandle" ∧ (parseMethodDescriptor yX1_needBy.desc).map (fun d => d.parameters.length) = some 1 := by decide +kernel
theorem cwX_XlistFew : GoodIn lw_all (wsV RX1 97 RX1 yX1_listFew (ws_ yX1_listFew cX1_listFew 3 none)) := lw_V q179 q181 qs7 q28 q182
theorem cdX_listFew : yX1_listFew.cls = RX1 ∧ yX1_listFew.cls ≠ "java/lang/invoke/MethodHandle" ∧ yX1_listFew.cls ≠ "java/lang/invoke/VarHandle" ∧ (parseMethodDescriptor yX1_listFew.desc).map (fun d => d.parameters.length) = some 0 := by decide +kernel
theorem cwX_XfindNeeded : GoodIn lw_all (wsV RX1 100 RX1 yX1_findNeeded (ws_ yX1_findNeeded cX1_findNeeded 6 none)) := lw_V q183 q185 qs8 q28 q186
theorem cdX_findNeeded : yX1_findNeeded.cls = RX1 ∧ yX1_findNeeded.cls ≠ "java/lang/invoke/MethodHandle" ∧ yX1_findNeeded.cls ≠ "java/lang/invoke/VarHandle" ∧ (parseMethodDescriptor yX1_findNeeded.desc).map (fun d => d.parameters.length) = some 1 := by decide +kernel
theorem cwX_XisOf : GoodIn lw_all (wsV RX1 90 RX1 yX1_isOf (ws_ yX1_isOf cX1_isOf 5 (some .boolean))) := lw_V q187 q189 qs9 q28 q190
theorem cdX_isOf : yX1_isOf.cls = RX1 ∧ yX1_isOf.cls ≠ "java/lang/invoke/MethodHandle" ∧ yX1_isOf.cls ≠ "java/lang/invoke/VarHandle" ∧ (parseMethodDescriptor yX1_isOf.desc).map (fun d => d.parameters.length) = some 2 := by decide +kernel
theorem cwX_XneededWith : GoodIn lw_all (wsV RX1 94 RX1 yX1_neededWith (ws_ yX1_neededWith cX1_neededWith 9 (some .int))) := lw_V q191 q193 qs10 q28 q194
theorem cdX_neededWith : yX1_neededWith.cls = RX1 ∧ yX1_neededWith.cls ≠ "java/lang/invoke/MethodHandle" ∧ yX1_neededWith.cls ≠ "java/lang/invoke/VarHandle" ∧ (parseMethodDescriptor yX1_neededWith.desc).map (fun d => d.parameters.length) = some 2 := by decide +kernel
theorem cwM_Mcompare : GoodIn lw_all (wsV RX2 38 RX2 yX2_compare (ws_ yX2_compare cX2_compare 8 (some .int))) := lw_V q216 q218 qs11 q29 q219
theorem cdM_compare : yX2_compare.cls = RX2 ∧ yX2_compare.cls ≠ "java/lang/invoke/MethodHandle" ∧ yX2_compare.cls ≠ "java/lang/invoke/VarHandle" ∧ (parseMethodDescriptor yX2_compare.desc).map (fun d => d.parameters.length) = some 2 := by decide +kernel
theorem cwM_MdigitOf : GoodIn lw_all (wsV RX2 42 RX2 yX2_digitOf (ws_ yX2_digitOf cX2_digitOf 5 (some .int))) := lw_V q220 q222 qs12 q29 q223
theorem cdM_digitOf : yX2_digitOf.cls = RX2 ∧ yX2_digitOf.cls ≠ "java/lang/invoke/MethodHandle" ∧ yX2_digitOf.cls ≠ "java/lang/invoke/VarHandle" ∧ (parseMethodDescriptor yX2_digitOf.desc).map (fun d => d.parameters.length) = some 2 := by decide +kernel
theorem cwM_Mtimes : GoodIn lw_all (wsV RX2 45 RX2 yX2_times (ws_ yX2_times cX2_times 5 (some .int))) := lw_V q224 q226 qs13 q29 q227
theorem cdM_times : yX2_times.cls = RX2 ∧ yX2_times.cls ≠ "java/lang/invoke/MethodHandle" ∧ yX2_times.cls ≠ "java/lang/invoke/VarHandle" ∧ (parseMethodDescriptor yX2_times.desc).map (fun d => d.parameters.length) = some 2 := by decide +kernel
theorem cwM_MisCode : GoodIn lw_all (wsV RX2 48 RX2 yX2_isCode (ws_ yX2_isCode cX2_isCode 2 (some .boolean))) := lw_V q270 q272 qs14 q29 q273
theorem cdM_isCode : yX2_isCode.cls = RX2 ∧ yX2_isCode.cls ≠ "java/lang/invoke/MethodHandle" ∧ yX2_isCode.cls ≠ "java/lang/invoke/VarHandle" ∧ (parseMethodDescriptor yX2_isCode.desc).map (fun d => d.parameters.length) = some 1 := by decide +kernel
theorem cwM_ManswerTo : GoodIn lw_all (wsV RX2 52 RX2 yX2_answerTo (ws_ yX2_answerTo cX2_answerTo 3 (some .int))) := lw_V q274 q276 qs15 q29 q277
theorem cdM_answerTo : yX2_answerTo.cls = RX2 ∧ yX2_answerTo.cls ≠ "java/lang/invoke/MethodHandle" ∧ yX2_answerTo.cls ≠ "java/lang/invoke/VarHandle" ∧ (parseMethodDescriptor yX2_answerTo.desc).map (fun d => d.parameters.length) = some 2 := by decide +kernel
theorem cwM_McountPossible : GoodIn lw_all (wsV RX2 62 RX2 yX2_countPossible (ws_ yX2_countPossible cX2_countPossible 4 (some .int))) := lw_V q282 q284 qs16 q29 q285
theorem cdM_countPossible : yX2_countPossible.cls = RX2 ∧ yX2_countPossible.cls ≠ "java/lang/invoke/MethodHandle" ∧ yX2_countPossible.cls ≠ "java/lang/invoke/VarHandle" ∧ (parseMethodDescriptor yX2_countPossible.desc).map (fun d => d.parameters.length) = some 1 := by decide +kernel
theorem cwM_Magrees : GoodIn lw_all (wsV RX2 58 RX2 yX2_agrees (ws_ yX2_agrees cX2_agrees 4 (some .boolean))) := lw_V q286 q288 qs17 q29 q289
theorem cdM_agrees : yX2_agrees.cls = RX2 ∧ yX2_agrees.cls ≠ "java/lang/invoke/MethodHandle" ∧ yX2_agrees.cls ≠ "java/lang/invoke/VarHandle" ∧ (parseMethodDescriptor yX2_agrees.desc).map (fun d => d.parameters.length) = some 2 := by decide +kernel
theorem cwM_Mpart : GoodIn lw_all (wsV RX2 66 RX2 yX2_part (ws_ yX2_part cX2_part 3 none)) := lw_V q314 q316 qs18 q29 q317
theorem cdM_part : yX2_part.cls = RX2 ∧ yX2_part.cls ≠ "java/lang/invoke/MethodHandle" ∧ yX2_part.cls ≠ "java/lang/invoke/VarHandle" ∧ (parseMethodDescriptor yX2_part.desc).map (fun d => d.parameters.length) = some 1 := by decide +kernel
theorem cwM_MworstOf : GoodIn lw_all (wsV RX2 70 RX2 yX2_worstOf (ws_ yX2_worstOf cX2_worstOf 4 (some .int))) := lw_V q322 q324 qs19 q29 q325
theorem cdM_worstOf : yX2_worstOf.cls = RX2 ∧ yX2_worstOf.cls ≠ "java/lang/invoke/MethodHandle" ∧ yX2_worstOf.cls ≠ "java/lang/invoke/VarHandle" ∧ (parseMethodDescriptor yX2_worstOf.desc).map (fun d => d.parameters.length) = some 1 := by decide +kernel
theorem cwM_MweightOf : GoodIn lw_all (wsV RX2 73 RX2 yX2_weightOf (ws_ yX2_weightOf cX2_weightOf 4 (some .int))) := lw_V q330 q332 qs20 q29 q333
theorem cdM_weightOf : yX2_weightOf.cls = RX2 ∧ yX2_weightOf.cls ≠ "java/lang/invoke/MethodHandle" ∧ yX2_weightOf.cls ≠ "java/lang/invoke/VarHandle" ∧ (parseMethodDescriptor yX2_weightOf.desc).map (fun d => d.parameters.length) = some 1 := by decide +kernel
theorem cwM_Mbest : GoodIn lw_all (wsV RX2 76 RX2 yX2_best (ws_ yX2_best cX2_best 6 (some .int))) := lw_V q338 q340 qs21 q29 q341
theorem cdM_best : yX2_best.cls = RX2 ∧ yX2_best.cls ≠ "java/lang/invoke/MethodHandle" ∧ yX2_best.cls ≠ "java/lang/invoke/VarHandle" ∧ (parseMethodDescriptor yX2_best.desc).map (fun d => d.parameters.length) = some 1 := by decide +kernel
theorem cwM_Msolve : GoodIn lw_all (wsV RX2 98 RX2 yX2_solve (ws_ yX2_solve cX2_solve 7 (some .int))) := lw_V q350 q352 qs22 q29 q353
theorem cdM_solve : yX2_solve.cls = RX2 ∧ yX2_solve.cls ≠ "java/lang/invoke/MethodHandle" ∧ yX2_solve.cls ≠ "java/lang/invoke/VarHandle" ∧ (parseMethodDescriptor yX2_solve.desc).map (fun d => d.parameters.length) = some 1 := by decide +kernel
theorem cwM_McanBeDone : GoodIn lw_all (wsV RX2 94 RX2 yX2_canBeDone (ws_ yX2_canBeDone cX2_canBeDone 5 (some .boolean))) := lw_V q354 q356 qs23 q29 q357
theorem cdM_canBeDone : yX2_canBeDone.cls = RX2 ∧ yX2_canBeDone.cls ≠ "java/lang/invoke/MethodHandle" ∧ yX2_canBeDone.cls ≠ "java/lang/invoke/VarHandle" ∧ (parseMethodDescriptor yX2_canBeDone.desc).map (fun d => d.parameters.length) = some 3 := by decide +kernel
theorem cwM_MisIn : GoodIn lw_all (wsV RX2 87 RX2 yX2_isIn (ws_ yX2_isIn cX2_isIn 4 (some .boolean))) := lw_V q358 q360 qs24 q29 q361
theorem cdM_isIn : yX2_isIn.cls = RX2 ∧ yX2_isIn.cls ≠ "java/lang/invoke/MethodHandle" ∧ yX2_isIn.cls ≠ "java/lang/invoke/VarHandle" ∧ (parseMethodDescriptor yX2_isIn.desc).map (fun d => d.parameters.length) = some 2 := by decide +kernel
theorem cwM_Mleaves : GoodIn lw_all (wsV RX2 90 RX2 yX2_leaves (ws_ yX2_leaves cX2_leaves 8 (some .boolean))) := lw_V q362 q364 qs25 q29 q365
theorem cdM_leaves : yX2_leaves.cls = RX2 ∧ yX2_leaves.cls ≠ "java/lang/invoke/MethodHandle" ∧ yX2_leaves.cls ≠ "java/lang/invoke/VarHandle" ∧ (parseMethodDescriptor yX2_leaves.desc).map (fun d => d.parameters.length) = some 3 := by decide +kernel
theorem cwM_MpartOf : GoodIn lw_all (wsV RX2 83 RX2 yX2_partOf (ws_ yX2_partOf cX2_partOf 7 (some .int))) := lw_V q366 q368 qs26 q29 q369
theorem cdM_partOf : yX2_partOf.cls = RX2 ∧ yX2_partOf.cls ≠ "java/lang/invoke/MethodHandle" ∧ yX2_partOf.cls ≠ "java/lang/invoke/VarHandle" ∧ (parseMethodDescriptor yX2_partOf.desc).map (fun d => d.parameters.length) = some 3 := by decide +kernel
end
section
/-! ===== the plain picture of the game: digits, answers, agreement ===== -/
/-- digit i of x in base D, low digit first -/
def cbD (D x i : Nat) : Nat := x / D ^ i % D
/-- how many k < n have P -/
def cbCnt (P : Nat → Bool) : Nat → Nat
  | 0 => 0
  | n + 1 => if P n then cbCnt P n + 1 else cbCnt P n
def cbSum (F : Nat → Nat) : Nat → Nat
  | 0 => 0
  | n + 1 => cbSum F n + F n
def cbMax (F : Nat → Nat) : Nat → Nat
  | 0 => 0
  | n + 1 => if cbMax F n < F n then F n else cbMax F n
def cbMin (a b : Nat) : Nat := if b ≤ a then b else a
def cbTimes (L D x d : Nat) : Nat := cbCnt (fun i => decide (cbD D x i = d)) L
def cbSame (L D g s : Nat) : Nat := cbCnt (fun i => decide (cbD D g i = cbD D s i)) L
def cbBoth (L D g s : Nat) : Nat := cbSum (fun d => cbMin (cbTimes L D g d) (cbTimes L D s d)) D
def cbAns (L D g s : Nat) : Nat := 10 * cbSame L D g s + cbBoth L D g s - cbSame L D g s
/-- how many of the c told guesses x does not agree with -/
def cbBad (L D : Nat) (G B : Nat → Nat) (c x : Nat) : Nat := cbCnt (fun k => !decide (cbAns L D (G k) x = B k)) c
def cbPos (L D : Nat) (G B : Nat → Nat) (c x : Nat) : Bool := decide (cbBad L D G B c x = 0)
theorem cbCnt_le (P : Nat → Bool) : ∀ n, cbCnt P n ≤ n
  | 0 => Nat.le_refl 0
  | n + 1 => by
    have h := cbCnt_le P n
    show (if P n then cbCnt P n + 1 else cbCnt P n) ≤ n + 1
    split <;> omega
theorem cbCnt_congr {P P' : Nat → Bool} : ∀ {n : Nat}, (∀ k, k < n → P k = P' k) → cbCnt P n = cbCnt P' n
  | 0, _ => rfl
  | n + 1, h => by
    show (if P n then cbCnt P n + 1 else cbCnt P n) = (if P' n then cbCnt P' n + 1 else cbCnt P' n)
    rw [cbCnt_congr (fun k hk => h k (by omega)), h n (by omega)]
theorem cbSum_congr {P P' : Nat → Nat} : ∀ {n : Nat}, (∀ k, k < n → P k = P' k) → cbSum P n = cbSum P' n
  | 0, _ => rfl
  | n + 1, h => by
    show cbSum P n + P n = cbSum P' n + P' n
    rw [cbSum_congr (fun k hk => h k (by omega)), h n (by omega)]
theorem cbMax_congr {P P' : Nat → Nat} : ∀ {n : Nat}, (∀ k, k < n → P k = P' k) → cbMax P n = cbMax P' n
  | 0, _ => rfl
  | n + 1, h => by
    show (if cbMax P n < P n then P n else cbMax P n) = (if cbMax P' n < P' n then P' n else cbMax P' n)
    rw [cbMax_congr (fun k hk => h k (by omega)), h n (by omega)]
theorem cbCnt_zero {P : Nat → Bool} : ∀ {n : Nat}, cbCnt P n = 0 ↔ ∀ k, k < n → P k = false
  | 0 => ⟨fun _ k hk => by omega, fun _ => rfl⟩
  | n + 1 => by
    show (if P n then cbCnt P n + 1 else cbCnt P n) = 0 ↔ _
    cases hP : P n with
    | true => exact ⟨fun h => by simp at h, fun h => by have := h n (by omega); rw [hP] at this; cases this⟩
    | false =>
      simp only [Bool.false_eq_true, if_false]
      rw [cbCnt_zero]
      constructor
      · intro h k hk
        by_cases hkn : k = n
        · rw [hkn, hP]
        · exact h k (by omega)
      · intro h k hk
        exact h k (by omega)
/-- the first one comes out -/
theorem cbCnt_first (P : Nat → Bool) : ∀ n, cbCnt P (n + 1) = (if P 0 then 1 else 0) + cbCnt (fun k => P (k + 1)) n
  | 0 => by show (if P 0 then 0 + 1 else 0) = _; split <;> rfl
  | n + 1 => by
    show (if P (n + 1) then cbCnt P (n + 1) + 1 else cbCnt P (n + 1)) = _ + (if P (n + 1) then cbCnt (fun k => P (k + 1)) n + 1 else cbCnt (fun k => P (k + 1)) n)
    rw [cbCnt_first P n]
    split <;> omega
/-- counted from the other end -/
theorem cbCnt_rev (P : Nat → Bool) : ∀ n, cbCnt (fun i => P (n - 1 - i)) n = cbCnt P n
  | 0 => rfl
  | n + 1 => by
    rw [cbCnt_first]
    have e : cbCnt (fun k => P (n + 1 - 1 - (k + 1))) n = cbCnt (fun i => P (n - 1 - i)) n := cbCnt_congr (fun k hk => by
      rw [show n + 1 - 1 - (k + 1) = n - 1 - k by omega])
    rw [e, cbCnt_rev P n]
    show (if P (n + 1 - 1 - 0) then 1 else 0) + cbCnt P n = (if P n then cbCnt P n + 1 else cbCnt P n)
    rw [show n + 1 - 1 - 0 = n by omega]
    split <;> omega
theorem cbD_lt {D : Nat} (hD : 0 < D) (x i : Nat) : cbD D x i < D := Nat.mod_lt _ hD
theorem cbSum_add (F K : Nat → Nat) : ∀ n, cbSum (fun k => F k + K k) n = cbSum F n + cbSum K n
  | 0 => rfl
  | n + 1 => by
    show cbSum (fun k => F k + K k) n + (F n + K n) = cbSum F n + F n + (cbSum K n + K n)
    rw [cbSum_add F K n]
    omega
theorem cbSum_one (q : Nat) : ∀ n, cbSum (fun d => if q = d then 1 else 0) n = if q < n then 1 else 0
  | 0 => by simp [cbSum]
  | n + 1 => by
    show cbSum (fun d => if q = d then 1 else 0) n + (if q = n then 1 else 0) = _
    rw [cbSum_one q n]
    by_cases h1 : q < n
    · rw [if_pos h1, if_neg (by omega), if_pos (by omega)]
    · by_cases h2 : q = n
      · rw [if_neg h1, if_pos h2, if_pos (by omega)]
      · rw [if_neg h1, if_neg h2, if_neg (by omega)]
theorem cbSum_zero : ∀ n, cbSum (fun _ => 0) n = 0
  | 0 => rfl
  | n + 1 => by show cbSum (fun _ => 0) n + 0 = 0; rw [cbSum_zero n]
theorem cbSum_le {F K : Nat → Nat} : ∀ {n : Nat}, (∀ k, k < n → F k ≤ K k) → cbSum F n ≤ cbSum K n
  | 0, _ => Nat.le_refl _
  | n + 1, h => by
    show cbSum F n + F n ≤ cbSum K n + K n
    have h1 := cbSum_le (F := F) (K := K) (n := n) (fun k hk => h k (by omega))
    have h2 := h n (by omega)
    omega
/-- every place has one digit -/
theorem cbTimes_sum {D : Nat} (hD : 0 < D) (x : Nat) : ∀ L, cbSum (fun d => cbTimes L D x d) D = L
  | 0 => cbSum_zero D
  | L + 1 => by
    have e : cbSum (fun d => cbTimes (L + 1) D x d) D = cbSum (fun d => cbTimes L D x d + (if cbD D x L = d then 1 else 0)) D := cbSum_congr (fun d _ => by
      show (if decide (cbD D x L = d) = true then cbTimes L D x d + 1 else cbTimes L D x d) = _
      by_cases h : cbD D x L = d
      · simp [h]
      · simp [h])
    rw [e, cbSum_add, cbTimes_sum hD x L, cbSum_one, if_pos (cbD_lt hD x L)]
theorem cbMin_le (a b : Nat) : cbMin a b ≤ a ∧ cbMin a b ≤ b := by
  unfold cbMin
  split <;> omega
theorem cbBoth_le {D : Nat} (hD : 0 < D) (L g s : Nat) : cbBoth L D g s ≤ L := by
  have h := cbSum_le (F := fun d => cbMin (cbTimes L D g d) (cbTimes L D s d)) (K := fun d => cbTimes L D g d) (n := D) (fun k _ => (cbMin_le _ _).1)
  rw [cbTimes_sum hD g L] at h
  exact h
theorem cbSame_le (L D g s : Nat) : cbSame L D g s ≤ L := cbCnt_le _ L
theorem cbAns_lt {L D : Nat} (hD : 0 < D) (hL : L ≤ 4) (g s : Nat) : cbAns L D g s < 45 := by
  have h1 := cbSame_le L D g s
  have h2 := cbBoth_le hD L g s
  unfold cbAns
  omega
theorem cbCnt_all {P : Nat → Bool} : ∀ {n : Nat}, (∀ k, k < n → P k = true) → cbCnt P n = n
  | 0, _ => rfl
  | n + 1, h => by
    show (if P n then cbCnt P n + 1 else cbCnt P n) = n + 1
    rw [h n (by omega), if_pos rfl, cbCnt_all (fun k hk => h k (by omega))]
theorem cbAns_self {L D : Nat} (hD : 0 < D) (g : Nat) : cbAns L D g g = 10 * L := by
  have h1 : cbSame L D g g = L := cbCnt_all (fun k _ => by simp)
  have h2 : cbBoth L D g g = L := by
    have e : cbBoth L D g g = cbSum (fun d => cbTimes L D g d) D := cbSum_congr (fun d _ => by unfold cbMin; split <;> rfl)
    rw [e, cbTimes_sum hD g L]
  unfold cbAns
  rw [h1, h2]
  omega
theorem cbBad_le (L D : Nat) (G B : Nat → Nat) (c x : Nat) : cbBad L D G B c x ≤ c := cbCnt_le _ c
/-- same, counted from the left as CodeBreaker does -/
theorem cbSame_rev (L D g s : Nat) : cbCnt (fun i => decide (cbD D g (L - 1 - i) = cbD D s (L - 1 - i))) L = cbSame L D g s := cbCnt_rev (fun i => decide (cbD D g i = cbD D s i)) L
theorem cbSum_bound {F : Nat → Nat} {b : Nat} : ∀ {n : Nat}, (∀ k, k < n → F k ≤ b) → cbSum F n ≤ n * b
  | 0, _ => by simp [cbSum]
  | n + 1, h => by
    show cbSum F n + F n ≤ (n + 1) * b
    have h1 := cbSum_bound (F := F) (b := b) (n := n) (fun k hk => h k (by omega))
    have h2 := h n (by omega)
    rw [Nat.add_mul, Nat.one_mul]
    omega
theorem cbMax_bound {F : Nat → Nat} {b : Nat} : ∀ {n : Nat}, (∀ k, k < n → F k ≤ b) → cbMax F n ≤ b
  | 0, _ => Nat.zero_le _
  | n + 1, h => by
    show (if cbMax F n < F n then F n else cbMax F n) ≤ b
    have h1 := cbMax_bound (F := F) (b := b) (n := n) (fun k hk => h k (by omega))
    have h2 := h n (by omega)
    split <;> omega
/-- the tables that CodeBreaker keeps: L places, D digits, N codes -/
def geoX (L D N : Nat) (f : Nat → Int32) (r : Nat → Nat → Int32) : Prop := (1 ≤ L ∧ L ≤ 4 ∧ 1 ≤ D ∧ D ≤ 3 ∧ 1 ≤ N ∧ N ≤ 81 ∧ N = D ^ L) ∧ f 0 = nI L ∧ f 1 = nI D ∧ f 2 = nI N ∧ (∀ x i, x < N → i < L → r 3 (4 * x + i) = nI (cbD D x (L - 1 - i))) ∧ ∀ x d, x < N → d < D → r 4 (3 * x + d) = nI (cbTimes L D x d)
/-- CodeBreaker's picture: c guesses told -/
def stX (L D N c : Nat) (G B : Nat → Nat) (f : Nat → Int32) (r : Nat → Nat → Int32) : Prop := geoX L D N f r ∧ c ≤ 8 ∧ f 5 = nI c ∧ (∀ k, k < c → G k < N ∧ r 6 k = nI (G k) ∧ B k ≤ 44 ∧ r 7 k = nI (B k)) ∧ ∀ x, x < N → r 8 x = nI (cbBad L D G B c x)
def geoM (L D N : Nat) (f : Nat → Int32) (r : Nat → Nat → Int32) : Prop := (1 ≤ L ∧ L ≤ 4 ∧ 1 ≤ D ∧ D ≤ 3 ∧ 1 ≤ N ∧ N ≤ 81 ∧ N = D ^ L) ∧ f 0 = nI L ∧ f 1 = nI D ∧ f 2 = nI N
/-- the model's picture -/
def stM (L D N c : Nat) (G B : Nat → Nat) (f : Nat → Int32) (r : Nat → Nat → Int32) : Prop := geoM L D N f r ∧ (∀ g s, g < N → s < N → r 10 (81 * g + s) = nI (cbAns L D g s)) ∧ c ≤ 8 ∧ f 5 = nI c ∧ ∀ k, k < c → G k < N ∧ r 3 k = nI (G k) ∧ B k ≤ 44 ∧ r 4 k = nI (B k)
theorem geoX.keep {L D N : Nat} {f f' : Nat → Int32} {r r' : Nat → Nat → Int32} (g : geoX L D N f r) (hf : ∀ k, k < 3 → f' k = f k) (hr : ∀ k, k < 5 → r' k = r k) : geoX L D N f' r' := by
  obtain ⟨g0, g1, g2, g3, g4, g5⟩ := g
  refine ⟨g0, by rw [hf 0 (by omega)]; exact g1, by rw [hf 1 (by omega)]; exact g2, by rw [hf 2 (by omega)]; exact g3, ?_, ?_⟩
  · rw [hr 3 (by omega)]; exact g4
  · rw [hr 4 (by omega)]; exact g5
theorem stX.keep {L D N c : Nat} {G B : Nat → Nat} {f f' : Nat → Int32} {r r' : Nat → Nat → Int32} (g : stX L D N c G B f r) (hf : ∀ k, k < 6 → f' k = f k) (hr : ∀ k, k < 9 → r' k = r k) : stX L D N c G B f' r' := by
  obtain ⟨g0, g1, g2, g3, g4⟩ := g
  refine ⟨g0.keep (fun k hk => hf k (by omega)) (fun k hk => hr k (by omega)), g1, by rw [hf 5 (by omega)]; exact g2, ?_, ?_⟩
  · rw [hr 6 (by omega), hr 7 (by omega)]; exact g3
  · rw [hr 8 (by omega)]; exact g4
theorem stM.keep {L D N c : Nat} {G B : Nat → Nat} {f f' : Nat → Int32} {r r' : Nat → Nat → Int32} (g : stM L D N c G B f r) (hf : ∀ k, k < 6 → f' k = f k) (h3 : r' 3 = r 3) (h4 : r' 4 = r 4) (h10 : r' 10 = r 10) : stM L D N c G B f' r' := by
  obtain ⟨⟨g0, g1, g2, g3⟩, g4, g5, g6, g7⟩ := g
  refine ⟨⟨g0, by rw [hf 0 (by omega)]; exact g1, by rw [hf 1 (by omega)]; exact g2, by rw [hf 2 (by omega)]; exact g3⟩, by rw [h10]; exact g4, g5, by rw [hf 5 (by omega)]; exact g6, ?_⟩
  rw [h3, h4]
  exact g7
theorem cbCnt_t {P : Nat → Bool} {n : Nat} (h : P n = true) : cbCnt P (n + 1) = cbCnt P n + 1 := by
  show (if P n then cbCnt P n + 1 else cbCnt P n) = _
  rw [h, if_pos rfl]
theorem cbCnt_f {P : Nat → Bool} {n : Nat} (h : P n = false) : cbCnt P (n + 1) = cbCnt P n := by
  show (if P n then cbCnt P n + 1 else cbCnt P n) = _
  rw [h, if_neg (by decide)]
/-- x is one of the numbers below N -/
def cbIs (N : Nat) (x : Int32) : Prop := ∃ j : Nat, j < N ∧ x = nI j
theorem cbIs_neg {N : Nat} {x : Int32} (hN : N < 2 ^ 31) (h : x < 0) : ¬ cbIs N x := by
  rintro ⟨j, hj, e⟩
  rw [e] at h
  exact nI_pos (by omega) h
theorem cbIs_big {N : Nat} {x : Int32} (hN : N < 2 ^ 31) (h : ¬ x < nI N) : ¬ cbIs N x := by
  rintro ⟨j, hj, e⟩
  rw [e] at h
  exact h (nI_lt hj (by omega))
theorem cbIs_of {N : Nat} {x : Int32} (hN : N < 2 ^ 31) (h1 : ¬ x < 0) (h2 : x < nI N) : cbIs N x := by
  rcases pk_ix x (n := N) hN with q | q | ⟨j, hj, e⟩
  · exact absurd q h1
  · exact absurd h2 (Int32.not_lt.mpr q)
  · exact ⟨j, hj, e⟩
/-- the code at place v among those with P: a walk of n steps from x, k of them met -/
def cbCode (P : Nat → Bool) (v : Int32) : Nat → Nat → Nat → Int32
  | 0, _, _ => -3
  | n + 1, x, k => if P x then (if nI k = v then nI x else cbCode P v n (x + 1) (k + 1)) else cbCode P v n (x + 1) k
def okT (N : Nat) (g b w : Int32) : Prop := cbIs N g ∧ cbIs 5 b ∧ cbIs 5 w
def upN (F : Nat → Nat) (k v : Nat) : Nat → Nat := fun j => if j = k then v else F j
theorem cbBad_up {L D : Nat} {G B : Nat → Nat} {c g b x : Nat} : cbBad L D (upN G c g) (upN B c b) (c + 1) x = if cbAns L D g x = b then cbBad L D G B c x else cbBad L D G B c x + 1 := by
  have e : cbCnt (fun k => !decide (cbAns L D (upN G c g k) x = upN B c b k)) c = cbBad L D G B c x := cbCnt_congr (fun k hk => by
    rw [show upN G c g k = G k from if_neg (by omega), show upN B c b k = B k from if_neg (by omega)])
  show (if (!decide (cbAns L D (upN G c g c) x = upN B c b c)) = true then cbCnt _ c + 1 else cbCnt _ c) = _
  rw [e, show upN G c g c = g from if_pos rfl, show upN B c b c = b from if_pos rfl]
  by_cases h : cbAns L D g x = b
  · simp [h]
  · simp [h]
theorem cbBad_s {L D : Nat} {G B : Nat → Nat} {c x : Nat} : cbBad L D G B (c + 1) x = if cbAns L D (G c) x = B c then cbBad L D G B c x else cbBad L D G B c x + 1 := by
  show (if (!decide (cbAns L D (G c) x = B c)) = true then cbBad L D G B c x + 1 else cbBad L D G B c x) = _
  by_cases h : cbAns L D (G c) x = B c
  · simp [h]
  · simp [h]
theorem cbCode_f {P : Nat → Bool} {v : Int32} {n x k : Nat} (h : P x = false) : cbCode P v (n + 1) x k = cbCode P v n (x + 1) k := by
  show (if P x then _ else _) = _
  rw [h, if_neg (by decide)]
theorem cbCode_t {P : Nat → Bool} {v : Int32} {n x k : Nat} (h : P x = true) (h2 : ¬ nI k = v) : cbCode P v (n + 1) x k = cbCode P v n (x + 1) (k + 1) := by
  show (if P x then (if nI k = v then _ else _) else _) = _
  rw [h, if_pos rfl, if_neg h2]
theorem cbCode_r {P : Nat → Bool} {v : Int32} {n x k : Nat} (h : P x = true) (h2 : nI k = v) : cbCode P v (n + 1) x k = nI x := by
  show (if P x then (if nI k = v then _ else _) else _) = _
  rw [h, if_pos rfl, if_pos h2]
theorem cbIs5_of {b : Int32} (h1 : ¬ b < 0) (h2 : b ≤ nI 4) : cbIs 5 b := by
  obtain ⟨j, hj, e⟩ := nI_of2 (M := nI 4) (n := 4) (by decide) h1 h2
  exact ⟨j, by omega, e⟩
theorem cbIs5_big {b : Int32} (h : ¬ b ≤ nI 4) : ¬ cbIs 5 b := by
  rintro ⟨j, hj, e⟩
  rw [e] at h
  exact h (nI_le (by omega) (by decide))
theorem stX_tell {L D N c : Nat} {G B : Nat → Nat} {f f4 : Nat → Int32} {r r3 : Nat → Nat → Int32} {i bk : Nat} (sx : stX L D N c G B f r) (hc : c < 8) (hi : i < N) (hb : bk ≤ 44) (ef : f4 5 = nI (c + 1)) (of4 : ∀ k, k ≠ 5 → f4 k = f k)
    (h0 : ∀ k, k < 5 → r3 k = r k) (h6 : r3 6 = upd (r 6) c (nI i)) (h7 : r3 7 = upd (r 7) c (nI bk)) (h8 : ∀ y, y < N → r3 8 y = if cbAns L D i y = bk then r 8 y else r 8 y + nI 1) : stX L D N (c + 1) (upN G c i) (upN B c bk) f4 r3 := by
  obtain ⟨g0, g1, g2, g3, g4⟩ := sx
  refine ⟨g0.keep (fun k hk => of4 k (by omega)) h0, by omega, ef, fun k hk => ?_, fun y hy => ?_⟩
  · rw [h6, h7]
    by_cases hkc : k = c
    · subst hkc
      rw [pk_us, pk_us, show upN G k i k = i from if_pos rfl, show upN B k bk k = bk from if_pos rfl]
      exact ⟨hi, rfl, hb, rfl⟩
    · rw [pk_un hkc, pk_un hkc, show upN G c i k = G k from if_neg hkc, show upN B c bk k = B k from if_neg hkc]
      exact g3 k (by omega)
  · rw [h8 y hy, g4 y hy, cbBad_up]
    by_cases h : cbAns L D i y = bk
    · rw [if_pos h, if_pos h]
    · rw [if_neg h, if_neg h, nI_add]
theorem stX_forget {L D N c : Nat} {G B : Nat → Nat} {f f4 : Nat → Int32} {r r3 : Nat → Nat → Int32} (sx : stX L D N c G B f r) (hc : 0 < c) (ef : f4 5 = nI (c - 1)) (of4 : ∀ k, k ≠ 5 → f4 k = f k)
    (h0 : ∀ k, k ≠ 8 → r3 k = r k) (h8 : ∀ y, y < N → r3 8 y = if cbAns L D (G (c - 1)) y = B (c - 1) then r 8 y else r 8 y + -1) : stX L D N (c - 1) G B f4 r3 := by
  obtain ⟨g0, g1, g2, g3, g4⟩ := sx
  refine ⟨g0.keep (fun k hk => of4 k (by omega)) (fun k hk => h0 k (by omega)), by omega, ef, fun k hk => ?_, fun y hy => ?_⟩
  · rw [h0 6 (by omega), h0 7 (by omega)]
    exact g3 k (by omega)
  · obtain ⟨c', rfl⟩ : ∃ c', c = c' + 1 := ⟨c - 1, by omega⟩
    rw [h8 y hy, g4 y hy, cbBad_s, show c' + 1 - 1 = c' by omega]
    by_cases h : cbAns L D (G c') y = B c'
    · rw [if_pos h, if_pos h]
    · rw [if_neg h, if_neg h, pk_m1]
end
section
/-! ===== parts of a guess, the best guess, useful tellings ===== -/
/-- how many codes with P give the answer t to the guess g -/
def cbPart (L D : Nat) (P : Nat → Bool) (N g t : Nat) : Nat := cbCnt (fun x => P x && decide (cbAns L D g x = t)) N
def cbParts (L D : Nat) (P : Nat → Bool) (N g : Nat) : Nat := cbCnt (fun t => decide (0 < cbPart L D P N g t)) 45
def cbWorst (L D : Nat) (P : Nat → Bool) (N g : Nat) : Nat := cbMax (cbPart L D P N g) 45
def cbWeight (L D : Nat) (P : Nat → Bool) (N g : Nat) : Nat := cbSum (fun t => cbPart L D P N g t * cbPart L D P N g t) 45
theorem cbMax_p {S : Nat → Nat} {t : Nat} (h : cbMax S t < S t) : cbMax S (t + 1) = S t := if_pos h
theorem cbMax_n {S : Nat → Nat} {t : Nat} (h : S t ≤ cbMax S t) : cbMax S (t + 1) = cbMax S t := if_neg (Nat.not_lt.mpr h)
theorem cbPart_le (L D : Nat) (P : Nat → Bool) (N g t : Nat) : cbPart L D P N g t ≤ N := cbCnt_le _ N
theorem cbPart_all {L D : Nat} (hD : 0 < D) (hL : L ≤ 4) (P : Nat → Bool) (g : Nat) : ∀ N, cbSum (fun t => cbPart L D P N g t) 45 = cbCnt P N
  | 0 => cbSum_zero 45
  | N + 1 => by
    have e : cbSum (fun t => cbPart L D P (N + 1) g t) 45 = cbSum (fun t => cbPart L D P N g t + (if P N then (if cbAns L D g N = t then 1 else 0) else 0)) 45 := cbSum_congr (fun t _ => by
      show (if (P N && decide (cbAns L D g N = t)) = true then cbPart L D P N g t + 1 else cbPart L D P N g t) = _
      cases P N with
      | false => simp
      | true => by_cases h : cbAns L D g N = t <;> simp [h])
    rw [e, cbSum_add, cbPart_all hD hL P g N]
    cases hP : P N with
    | false => rw [cbCnt_f hP]; simp only [Bool.false_eq_true, if_false]; rw [cbSum_zero]; rfl
    | true => rw [cbCnt_t hP]; simp only [if_true]; rw [cbSum_one, if_pos (cbAns_lt hD hL g N)]
theorem cbSum_mul (b : Nat) (F : Nat → Nat) : ∀ n, cbSum (fun k => b * F k) n = b * cbSum F n
  | 0 => by simp [cbSum]
  | n + 1 => by
    show cbSum (fun k => b * F k) n + b * F n = b * (cbSum F n + F n)
    rw [cbSum_mul b F n, Nat.mul_add]
theorem cbWeight_le {L D N : Nat} (hD : 0 < D) (hL : L ≤ 4) (hN : N ≤ 81) (P : Nat → Bool) (g : Nat) : cbWeight L D P N g ≤ 6561 := by
  have h1 : cbWeight L D P N g ≤ cbSum (fun t => N * cbPart L D P N g t) 45 := cbSum_le (fun t _ => Nat.mul_le_mul_right _ (cbPart_le L D P N g t))
  rw [cbSum_mul, cbPart_all hD hL P g N] at h1
  have h2 := cbCnt_le P N
  have h3 : N * cbCnt P N ≤ 81 * 81 := Nat.mul_le_mul hN (by omega)
  omega
theorem cbWorst_le {L D N : Nat} (P : Nat → Bool) (g : Nat) : cbWorst L D P N g ≤ N := cbMax_bound (fun t _ => cbPart_le L D P N g t)
theorem cbSqs_le {L D N : Nat} (hN : N ≤ 81) (P : Nat → Bool) (g t : Nat) (ht : t ≤ 60) : cbSum (fun t => cbPart L D P N g t * cbPart L D P N g t) t ≤ 60 * 6561 := by
  have h1 := cbSum_bound (F := fun t => cbPart L D P N g t * cbPart L D P N g t) (b := 6561) (n := t) (fun k _ => by
    have h := cbPart_le L D P N g k
    exact Nat.mul_le_mul (Nat.le_trans h hN) (Nat.le_trans h hN))
  exact Nat.le_trans h1 (Nat.mul_le_mul_right _ ht)
/-- the first best among the first n -/
def cbArg (R : Nat → Nat) : Nat → Nat
  | 0 => 0
  | n + 1 => if R n < R (cbArg R n) then n else cbArg R n
def cbVal (L D : Nat) (P : Nat → Bool) (N w g : Nat) : Nat := if w = 0 then cbWorst L D P N g else cbWeight L D P N g
def cbRank (L D : Nat) (P : Nat → Bool) (N w g : Nat) : Nat := 2 * cbVal L D P N w g + (if P g then 0 else 1)
theorem cbRank_lt {L D N : Nat} (hD : 0 < D) (hL : L ≤ 4) (hN : N ≤ 81) (P : Nat → Bool) (w g : Nat) : cbRank L D P N w g < 100000 := by
  have h1 := cbWeight_le (N := N) hD hL hN P g
  have h2 := cbWorst_le (L := L) (D := D) (N := N) P g
  unfold cbRank cbVal
  split <;> split <;> omega
/-- one step of CodeBreaker's search -/
theorem cbArg_stepX {R : Nat → Nat} {g lst : Nat} {bst : Int32} (hR : R g < 100000) (h : (g = 0 ∧ bst = -3 ∧ lst = 100000) ∨ (0 < g ∧ bst = nI (cbArg R g) ∧ lst = R (cbArg R g))) :
    (g + 1 = 0 ∧ (if R g < lst then nI g else bst) = -3 ∧ (if R g < lst then R g else lst) = 100000) ∨ (0 < g + 1 ∧ (if R g < lst then nI g else bst) = nI (cbArg R (g + 1)) ∧ (if R g < lst then R g else lst) = R (cbArg R (g + 1))) := by
  right
  rcases h with ⟨rfl, rfl, rfl⟩ | ⟨h0, rfl, rfl⟩
  · rw [if_pos hR, if_pos hR, show cbArg R (0 + 1) = 0 from if_neg (Nat.lt_irrefl _)]
    exact ⟨by omega, rfl, rfl⟩
  · refine ⟨by omega, ?_, ?_⟩
    · show _ = nI (if R g < R (cbArg R g) then g else cbArg R g)
      split <;> rfl
    · show _ = R (if R g < R (cbArg R g) then g else cbArg R g)
      split <;> rfl
def cbAny (P : Nat → Bool) : Nat → Bool
  | 0 => false
  | n + 1 => cbAny P n || P n
theorem cbAny_iff {P : Nat → Bool} : ∀ {n : Nat}, cbAny P n = true ↔ ∃ k, k < n ∧ P k = true
  | 0 => ⟨fun h => (by cases h), fun ⟨k, hk, _⟩ => absurd hk (by omega)⟩
  | n + 1 => by
    show (cbAny P n || P n) = true ↔ _
    rw [Bool.or_eq_true, cbAny_iff]
    constructor
    · rintro (⟨k, h1, h2⟩ | h)
      · exact ⟨k, by omega, h2⟩
      · exact ⟨n, by omega, h⟩
    · rintro ⟨k, h1, h2⟩
      by_cases hk : k = n
      · exact Or.inr (hk ▸ h2)
      · exact Or.inl ⟨k, by omega, h2⟩
/-- x speaks for the telling k: it disagrees with k alone -/
def cbSole (L D : Nat) (G B : Nat → Nat) (c k x : Nat) : Bool := decide (cbBad L D G B c x = 1) && !decide (cbAns L D (G k) x = B k)
def cbUse (L D : Nat) (G B : Nat → Nat) (c N : Nat) : Nat := cbCnt (fun k => cbAny (cbSole L D G B c k) N) c
theorem cbAny_l {P : Nat → Bool} {n : Nat} (h : cbAny P n = true) : cbAny P (n + 1) = true := by show (cbAny P n || P n) = true; rw [h]; rfl
theorem cbAny_r {P : Nat → Bool} {n : Nat} (h : P n = true) : cbAny P (n + 1) = true := by show (cbAny P n || P n) = true; rw [h, Bool.or_true]
theorem cbAny_0 {P : Nat → Bool} {n : Nat} (h : cbAny P n = false) (h2 : P n = false) : cbAny P (n + 1) = false := by show (cbAny P n || P n) = false; rw [h, h2]; rfl
end
section
/-! ===== few codes: sets of them as numbers, how many guesses a set needs ===== -/
/-- the k-th of those below n with P -/
def cbSel (P : Nat → Bool) : Nat → Nat → Nat
  | 0, _ => 0
  | n + 1, k => if P n = true ∧ cbCnt P n = k then n else cbSel P n k
theorem cbSel_old {P : Nat → Bool} {n k : Nat} (h : k < cbCnt P n) : cbSel P (n + 1) k = cbSel P n k := if_neg (fun q => by omega)
theorem cbSel_new {P : Nat → Bool} {n : Nat} (h : P n = true) : cbSel P (n + 1) (cbCnt P n) = n := if_pos ⟨h, rfl⟩
theorem cbCnt_mono (P : Nat → Bool) : ∀ {m n : Nat}, m ≤ n → cbCnt P m ≤ cbCnt P n := by
  intro m n h
  induction n with
  | zero => rw [show m = 0 by omega]; exact Nat.le_refl _
  | succ n ih =>
    by_cases hm : m = n + 1
    · rw [hm]; exact Nat.le_refl _
    · have h1 := ih (by omega)
      show cbCnt P m ≤ (if P n then cbCnt P n + 1 else cbCnt P n)
      split <;> omega
theorem cbSel_keep (P : Nat → Bool) {m k : Nat} (hk : k < cbCnt P m) : ∀ {n : Nat}, m ≤ n → cbSel P n k = cbSel P m k := by
  intro n h
  induction n with
  | zero => rw [show m = 0 by omega]
  | succ n ih =>
    by_cases hm : m = n + 1
    · rw [hm]
    · rw [cbSel_old (Nat.lt_of_lt_of_le hk (cbCnt_mono P (by omega))), ih (by omega)]
theorem cbSel_lt {P : Nat → Bool} {k : Nat} : ∀ {n : Nat}, k < cbCnt P n → cbSel P n k < n
  | 0, h => absurd h (Nat.not_lt_zero _)
  | n + 1, h => by
    by_cases hk : k < cbCnt P n
    · rw [cbSel_old hk]
      have := cbSel_lt (n := n) hk
      omega
    · have hP : P n = true := by
        cases hp : P n with
        | true => rfl
        | false => rw [cbCnt_f hp] at h; exact absurd h hk
      rw [cbCnt_t hP] at h
      rw [show k = cbCnt P n by omega, cbSel_new hP]
      omega
/-- the set of those j < n with P, as a number -/
def cbMask (P : Nat → Bool) : Nat → Nat
  | 0 => 0
  | n + 1 => if P n then cbMask P n + 2 ^ n else cbMask P n
theorem cbMask_t {P : Nat → Bool} {n : Nat} (h : P n = true) : cbMask P (n + 1) = cbMask P n + 2 ^ n := by
  show (if P n then _ else _) = _
  rw [h, if_pos rfl]
theorem cbMask_f {P : Nat → Bool} {n : Nat} (h : P n = false) : cbMask P (n + 1) = cbMask P n := by
  show (if P n then _ else _) = _
  rw [h, if_neg (by decide)]
theorem cbMask_lt (P : Nat → Bool) : ∀ n, cbMask P n < 2 ^ n
  | 0 => Nat.one_pos
  | n + 1 => by
    have h := cbMask_lt P n
    have e : 2 ^ (n + 1) = 2 ^ n + 2 ^ n := by rw [Nat.pow_succ]; omega
    show (if P n then cbMask P n + 2 ^ n else cbMask P n) < _
    split <;> omega
theorem cbMask_congr {P P' : Nat → Bool} : ∀ {n : Nat}, (∀ k, k < n → P k = P' k) → cbMask P n = cbMask P' n
  | 0, _ => rfl
  | n + 1, h => by
    show (if P n then cbMask P n + 2 ^ n else cbMask P n) = (if P' n then cbMask P' n + 2 ^ n else cbMask P' n)
    rw [cbMask_congr (fun k hk => h k (by omega)), h n (by omega)]
theorem cbMask_mod (u : Nat) : ∀ n, cbMask (fun j => u.testBit j) n = u % 2 ^ n
  | 0 => by show 0 = u % 1; omega
  | n + 1 => by
    rw [Nat.mod_pow_succ, ← cbMask_mod u n]
    have hb : u.testBit n = decide (u / 2 ^ n % 2 = 1) := Nat.testBit_eq_decide_div_mod_eq
    cases h : u.testBit n with
    | true =>
      rw [h] at hb
      have hb := of_decide_eq_true hb.symm
      rw [cbMask_t (P := fun j => u.testBit j) h, hb, Nat.mul_one]
    | false =>
      rw [h] at hb
      have hb := of_decide_eq_false hb.symm
      rw [cbMask_f (P := fun j => u.testBit j) h, show u / 2 ^ n % 2 = 0 by omega, Nat.mul_zero, Nat.add_zero]
theorem cbMask_sub {P P' : Nat → Bool} : ∀ {n : Nat}, (∀ k, k < n → P k = true → P' k = true) → cbMask P n ≤ cbMask P' n
  | 0, _ => Nat.le_refl _
  | n + 1, h => by
    have h1 := cbMask_sub (P := P) (P' := P') (n := n) (fun k hk => h k (by omega))
    cases hp : P n with
    | true => rw [cbMask_t hp, cbMask_t (h n (by omega) hp)]; omega
    | false =>
      rw [cbMask_f hp]
      show _ ≤ (if P' n then cbMask P' n + 2 ^ n else cbMask P' n)
      split
      · exact Nat.le_trans h1 (Nat.le_add_right _ _)
      · exact h1
/-- those of the set u that answer t -/
def cbQ (A : Nat → Nat) (u t : Nat) : Nat → Bool := fun j => u.testBit j && decide (A j = t)
def cbPt (A : Nat → Nat) (F u t : Nat) : Nat := cbMask (cbQ A u t) F
theorem cbPt_le (A : Nat → Nat) (F u t : Nat) : cbPt A F u t ≤ u := by
  have h1 : cbPt A F u t ≤ cbMask (fun j => u.testBit j) F := cbMask_sub (fun k _ h => by
    unfold cbQ at h
    rw [Bool.and_eq_true] at h
    exact h.1)
  rw [cbMask_mod] at h1
  exact Nat.le_trans h1 (Nat.mod_le _ _)
def cbHere (A : Nat → Nat) (F al : Nat) (T : Nat → Nat) (u k : Nat) : Nat := if A k = al ∨ cbPt A F u (A k) = 0 then 0 else if cbPt A F u (A k) = u then 100 else T (cbPt A F u (A k))
theorem cbHere_0 {A : Nat → Nat} {F al : Nat} {T : Nat → Nat} {u k : Nat} (h : A k = al ∨ cbPt A F u (A k) = 0) : cbHere A F al T u k = 0 := if_pos h
theorem cbHere_1 {A : Nat → Nat} {F al : Nat} {T : Nat → Nat} {u k : Nat} (h1 : A k ≠ al) (h2 : cbPt A F u (A k) ≠ 0) (h3 : cbPt A F u (A k) = u) : cbHere A F al T u k = 100 := by
  unfold cbHere
  rw [if_neg (fun q => q.elim h1 h2), if_pos h3]
theorem cbHere_T {A : Nat → Nat} {F al : Nat} {T : Nat → Nat} {u k : Nat} (h1 : A k ≠ al) (h2 : cbPt A F u (A k) ≠ 0) (h3 : cbPt A F u (A k) ≠ u) : cbHere A F al T u k = T (cbPt A F u (A k)) := by
  unfold cbHere
  rw [if_neg (fun q => q.elim h1 h2), if_neg h3]
theorem cbHere_le {A : Nat → Nat} {F al : Nat} {T : Nat → Nat} {u : Nat} (hT : ∀ t, t < u → T t ≤ 100) (k : Nat) : cbHere A F al T u k ≤ 100 := by
  unfold cbHere
  split
  · omega
  · split
    · omega
    · rename_i h
      exact hT _ (Nat.lt_of_le_of_ne (cbPt_le A F u (A k)) h)
/-- how many guesses a set needs if the guess with the answers A is made first -/
def cbNW (A : Nat → Nat) (F al : Nat) (T : Nat → Nat) (u : Nat) : Nat := cbMax (cbHere A F al T u) F + 1
def cbIn (fc : Nat → Nat) (F u g : Nat) : Bool := cbAny (fun k => u.testBit k && decide (fc k = g)) F
def cbOkG (fc : Nat → Nat) (F w u g : Nat) : Bool := decide (w = 0) || cbIn fc F u g
def cbLeast (ok : Nat → Bool) (V : Nat → Nat) : Nat → Nat
  | 0 => 100
  | n + 1 => if ok n then (if V n < cbLeast ok V n then V n else cbLeast ok V n) else cbLeast ok V n
theorem cbLeast_f {ok : Nat → Bool} {V : Nat → Nat} {n : Nat} (h : ok n = false) : cbLeast ok V (n + 1) = cbLeast ok V n := by
  show (if ok n then _ else _) = _
  rw [h, if_neg (by decide)]
theorem cbLeast_t {ok : Nat → Bool} {V : Nat → Nat} {n : Nat} (h : ok n = true) (h2 : V n < cbLeast ok V n) : cbLeast ok V (n + 1) = V n := by
  show (if ok n then (if V n < cbLeast ok V n then _ else _) else _) = _
  rw [h, if_pos rfl, if_pos h2]
theorem cbLeast_n {ok : Nat → Bool} {V : Nat → Nat} {n : Nat} (h : ok n = true) (h2 : cbLeast ok V n ≤ V n) : cbLeast ok V (n + 1) = cbLeast ok V n := by
  show (if ok n then (if V n < cbLeast ok V n then _ else _) else _) = _
  rw [h, if_pos rfl, if_neg (Nat.not_lt.mpr h2)]
theorem cbLeast_le (ok : Nat → Bool) (V : Nat → Nat) : ∀ n, cbLeast ok V n ≤ 100
  | 0 => Nat.le_refl _
  | n + 1 => by
    have h := cbLeast_le ok V n
    show (if ok n then (if V n < cbLeast ok V n then V n else cbLeast ok V n) else cbLeast ok V n) ≤ 100
    split
    · split <;> omega
    · exact h
theorem cbLeast_congr {ok : Nat → Bool} {V V' : Nat → Nat} : ∀ {n : Nat}, (∀ k, k < n → V k = V' k) → cbLeast ok V n = cbLeast ok V' n
  | 0, _ => rfl
  | n + 1, h => by
    show (if ok n then (if V n < cbLeast ok V n then V n else cbLeast ok V n) else cbLeast ok V n) = (if ok n then (if V' n < cbLeast ok V' n then V' n else cbLeast ok V' n) else cbLeast ok V' n)
    rw [cbLeast_congr (fun k hk => h k (by omega)), h n (by omega)]
def cbStep (A : Nat → Nat → Nat) (fc : Nat → Nat) (F al N w : Nat) (T : Nat → Nat) (u : Nat) : Nat := cbLeast (cbOkG fc F w u) (fun g => cbNW (A g) F al T u) N
def cbTab (S : (Nat → Nat) → Nat → Nat) : Nat → Nat → Nat
  | 0 => fun _ => 0
  | n + 1 => fun t => if t = n + 1 then S (cbTab S n) (n + 1) else cbTab S n t
def cbT (A : Nat → Nat → Nat) (fc : Nat → Nat) (F al N w : Nat) (t : Nat) : Nat := cbTab (cbStep A fc F al N w) t t
theorem cbHere_congr {A : Nat → Nat} {F al : Nat} {T T' : Nat → Nat} {u : Nat} (hT : ∀ t, t < u → T t = T' t) (k : Nat) : cbHere A F al T u k = cbHere A F al T' u k := by
  unfold cbHere
  split
  · rfl
  · split
    · rfl
    · rename_i h
      exact hT _ (Nat.lt_of_le_of_ne (cbPt_le A F u (A k)) h)
theorem cbNW_congr {A : Nat → Nat} {F al : Nat} {T T' : Nat → Nat} {u : Nat} (hT : ∀ t, t < u → T t = T' t) : cbNW A F al T u = cbNW A F al T' u := by
  unfold cbNW
  rw [cbMax_congr (fun k _ => cbHere_congr hT k)]
theorem cbStep_congr {A : Nat → Nat → Nat} {fc : Nat → Nat} {F al N w : Nat} {T T' : Nat → Nat} {u : Nat} (hT : ∀ t, t < u → T t = T' t) : cbStep A fc F al N w T u = cbStep A fc F al N w T' u := cbLeast_congr (fun g _ => cbNW_congr hT)
theorem cbTab_old (S : (Nat → Nat) → Nat → Nat) {t : Nat} : ∀ {n : Nat}, t ≤ n → cbTab S n t = cbTab S t t := by
  intro n h
  induction n with
  | zero => rw [show t = 0 by omega]
  | succ n ih =>
    by_cases ht : t = n + 1
    · rw [ht]
    · show (if t = n + 1 then _ else cbTab S n t) = _
      rw [if_neg ht, ih (by omega)]
theorem cbT_0 (A : Nat → Nat → Nat) (fc : Nat → Nat) (F al N w : Nat) : cbT A fc F al N w 0 = 0 := rfl
theorem cbT_s (A : Nat → Nat → Nat) (fc : Nat → Nat) (F al N w : Nat) {u : Nat} (hu : 1 ≤ u) : cbT A fc F al N w u = cbStep A fc F al N w (cbT A fc F al N w) u := by
  obtain ⟨n, rfl⟩ : ∃ n, u = n + 1 := ⟨u - 1, by omega⟩
  show (if n + 1 = n + 1 then cbStep A fc F al N w (cbTab (cbStep A fc F al N w) n) (n + 1) else _) = _
  rw [if_pos rfl]
  exact cbStep_congr (fun t ht => cbTab_old _ (by omega))
theorem cbT_le (A : Nat → Nat → Nat) (fc : Nat → Nat) (F al N w u : Nat) : cbT A fc F al N w u ≤ 100 := by
  by_cases hu : u = 0
  · rw [hu, cbT_0]; omega
  · rw [cbT_s _ _ _ _ _ _ (by omega)]
    exact cbLeast_le _ _ _
/-! bits of Int32, small numbers -/
theorem cb_bitD : ∀ k, k < 8 → ∀ u, u < 256 → (nI u >>> (nI k &&& 31)) &&& nI 1 = nI (u.testBit k).toNat := by decide +kernel
theorem cb_shlD : ∀ k, k < 9 → nI 1 <<< (nI k &&& 31) = nI (2 ^ k) := by decide +kernel
theorem cb_orD : ∀ k, k < 8 → ∀ u, u < 2 ^ k → nI u ||| nI (2 ^ k) = nI (u + 2 ^ k) := by decide +kernel
theorem cb_pow8 {F : Nat} (h : F ≤ 8) : 2 ^ F ≤ 256 := Nat.pow_le_pow_right (by decide) h
/-- the first g from x on with P, within n steps -/
def cbFind (P : Nat → Bool) : Nat → Nat → Int32
  | 0, _ => -3
  | n + 1, x => if P x then nI x else cbFind P n (x + 1)
theorem cbFind_f {P : Nat → Bool} {n x : Nat} (h : P x = false) : cbFind P (n + 1) x = cbFind P n (x + 1) := by
  show (if P x then _ else _) = _
  rw [h, if_neg (by decide)]
theorem cbFind_t {P : Nat → Bool} {n x : Nat} (h : P x = true) : cbFind P (n + 1) x = nI x := by
  show (if P x then _ else _) = _
  rw [h, if_pos rfl]
theorem cb_narb (b : Bool) : narrow .boolean (.int (nI b.toNat)) = .int (nI b.toNat) := by cases b <;> rfl
end
section
/-! ===== what the model's walks need ===== -/
/-- telling k speaks against x, and isn't w -/
def cbDis (L D : Nat) (G B : Nat → Nat) (w x k : Nat) : Bool := !decide (k = w) && !decide (cbAns L D (G k) x = B k)
def cbAgr (L D : Nat) (G B : Nat → Nat) (c w x : Nat) : Bool := !(cbAny (cbDis L D G B w x) c)
theorem cbAny_none {P : Nat → Bool} {n : Nat} : cbAny P n = false ↔ ∀ k, k < n → P k = false := by
  constructor
  · intro h k hk
    cases hp : P k with
    | false => rfl
    | true => rw [cbAny_iff.mpr ⟨k, hk, hp⟩] at h; cases h
  · intro h
    cases hc : cbAny P n with
    | false => rfl
    | true =>
      obtain ⟨k, hk, hp⟩ := cbAny_iff.mp hc
      rw [h k hk] at hp
      cases hp
theorem cbAgr_pos {L D : Nat} {G B : Nat → Nat} {c : Nat} (hc : c ≤ 8) : cbAgr L D G B c 8 = cbPos L D G B c := by
  funext x
  unfold cbAgr cbPos
  cases h : cbAny (cbDis L D G B 8 x) c with
  | false =>
    have h2 := cbAny_none.mp h
    symm
    refine decide_eq_true (cbCnt_zero.mpr (fun k hk => ?_))
    have h3 := h2 k hk
    unfold cbDis at h3
    rw [decide_eq_false (show ¬ k = 8 by omega)] at h3
    simpa using h3
  | true =>
    obtain ⟨k, hk, hp⟩ := cbAny_iff.mp h
    symm
    refine decide_eq_false (fun z => ?_)
    have h3 := cbCnt_zero.mp z k hk
    unfold cbDis at hp
    simp at h3 hp
    exact hp.2 h3
theorem cb_m1 : ∀ k, k < 8 → (nI k = -1 ↔ k = 8) := by decide +kernel
theorem cb_sub0 (v w : Int32) : v - w = 0 ↔ w = v := by
  constructor
  · intro h; grind
  · intro h; grind
theorem cb_dec (v : Int32) (k : Nat) : v - nI k + Int32.ofInt (-1) = v - nI (k + 1) := by
  rw [nI_succ, show Int32.ofInt (-1) = -1 from rfl]
  grind
theorem cb_sub00 (v : Int32) : v = v - nI 0 := by
  rw [nI_0]
  grind
theorem stM_tell {L D N c : Nat} {G B : Nat → Nat} {f f4 : Nat → Int32} {r r3 : Nat → Nat → Int32} {i bk : Nat} (sx : stM L D N c G B f r) (hc : c < 8) (hi : i < N) (hb : bk ≤ 44) (ef : f4 5 = nI (c + 1)) (of4 : ∀ k, k ≠ 5 → f4 k = f k)
    (h0 : r3 10 = r 10) (h6 : r3 3 = upd (r 3) c (nI i)) (h7 : r3 4 = upd (r 4) c (nI bk)) : stM L D N (c + 1) (upN G c i) (upN B c bk) f4 r3 := by
  obtain ⟨⟨g0, g1, g2, g3⟩, g4, g5, g6, g7⟩ := sx
  refine ⟨⟨g0, by rw [of4 0 (by omega)]; exact g1, by rw [of4 1 (by omega)]; exact g2, by rw [of4 2 (by omega)]; exact g3⟩, by rw [h0]; exact g4, by omega, ef, fun k hk => ?_⟩
  rw [h6, h7]
  by_cases hkc : k = c
  · subst hkc
    rw [pk_us, pk_us, show upN G k i k = i from if_pos rfl, show upN B k bk k = bk from if_pos rfl]
    exact ⟨hi, rfl, hb, rfl⟩
  · rw [pk_un hkc, pk_un hkc, show upN G c i k = G k from if_neg hkc, show upN B c bk k = B k from if_neg hkc]
    exact g7 k (by omega)
theorem stM_forget {L D N c : Nat} {G B : Nat → Nat} {f f4 : Nat → Int32} {r : Nat → Nat → Int32} (sx : stM L D N c G B f r) (ef : f4 5 = nI (c - 1)) (of4 : ∀ k, k ≠ 5 → f4 k = f k) : stM L D N (c - 1) G B f4 r := by
  obtain ⟨⟨g0, g1, g2, g3⟩, g4, g5, g6, g7⟩ := sx
  exact ⟨⟨g0, by rw [of4 0 (by omega)]; exact g1, by rw [of4 1 (by omega)]; exact g2, by rw [of4 2 (by omega)]; exact g3⟩, g4, by omega, ef, fun k hk => g7 k (by omega)⟩
theorem cbCnt_ext {P : Nat → Bool} {m : Nat} : ∀ {n : Nat}, m ≤ n → (∀ k, m ≤ k → k < n → P k = false) → cbCnt P n = cbCnt P m := by
  intro n h hP
  induction n with
  | zero => rw [show m = 0 by omega]
  | succ n ih =>
    by_cases hm : m = n + 1
    · rw [hm]
    · rw [cbCnt_f (hP n (by omega) (by omega)), ih (by omega) (fun k h1 h2 => hP k h1 (by omega))]
theorem cbSum_ext {F : Nat → Nat} {m : Nat} : ∀ {n : Nat}, m ≤ n → (∀ k, m ≤ k → k < n → F k = 0) → cbSum F n = cbSum F m := by
  intro n h hP
  induction n with
  | zero => rw [show m = 0 by omega]
  | succ n ih =>
    by_cases hm : m = n + 1
    · rw [hm]
    · show cbSum F n + F n = _
      rw [hP n (by omega) (by omega), ih (by omega) (fun k h1 h2 => hP k h1 (by omega)), Nat.add_zero]
theorem cbMax_ext {F : Nat → Nat} {m : Nat} : ∀ {n : Nat}, m ≤ n → (∀ k, m ≤ k → k < n → F k = 0) → cbMax F n = cbMax F m := by
  intro n h hP
  induction n with
  | zero => rw [show m = 0 by omega]
  | succ n ih =>
    by_cases hm : m = n + 1
    · rw [hm]
    · rw [cbMax_n (by rw [hP n (by omega) (by omega)]; exact Nat.zero_le _), ih (by omega) (fun k h1 h2 => hP k h1 (by omega))]
/-- no answer is 45 or more -/
theorem cbPart_hi {L D N : Nat} (hD : 0 < D) (hL : L ≤ 4) (P : Nat → Bool) (g t : Nat) (ht : 45 ≤ t) : cbPart L D P N g t = 0 := cbCnt_zero.mpr (fun x _ => by
  have := cbAns_lt hD hL g x
  rw [decide_eq_false (show ¬ cbAns L D g x = t by omega), Bool.and_false])
theorem cbParts60 {L D N : Nat} (hD : 0 < D) (hL : L ≤ 4) (P : Nat → Bool) (g : Nat) : cbCnt (fun t => decide (0 < cbPart L D P N g t)) 60 = cbParts L D P N g := cbCnt_ext (by omega) (fun k h1 _ => decide_eq_false (by rw [cbPart_hi hD hL P g k h1]; omega))
theorem cbWorst60 {L D N : Nat} (hD : 0 < D) (hL : L ≤ 4) (P : Nat → Bool) (g : Nat) : cbMax (cbPart L D P N g) 60 = cbWorst L D P N g := cbMax_ext (by omega) (fun k h1 _ => cbPart_hi hD hL P g k h1)
theorem cbWeight60 {L D N : Nat} (hD : 0 < D) (hL : L ≤ 4) (P : Nat → Bool) (g : Nat) : cbSum (fun t => cbPart L D P N g t * cbPart L D P N g t) 60 = cbWeight L D P N g := cbSum_ext (by omega) (fun k h1 _ => by rw [cbPart_hi hD hL P g k h1])
theorem cbArg_1 (R : Nat → Nat) : cbArg R 1 = 0 := if_neg (Nat.lt_irrefl _)
theorem cbArg_p {R : Nat → Nat} {g : Nat} (h : R g < R (cbArg R g)) : cbArg R (g + 1) = g := if_pos h
theorem cbArg_n {R : Nat → Nat} {g : Nat} (h : R (cbArg R g) ≤ R g) : cbArg R (g + 1) = cbArg R g := if_neg (Nat.not_lt.mpr h)
theorem cbArg_lt (R : Nat → Nat) : ∀ {n : Nat}, 0 < n → cbArg R n < n := by
  intro n h
  induction n with
  | zero => omega
  | succ n ih =>
    show (if R n < R (cbArg R n) then n else cbArg R n) < n + 1
    split
    · omega
    · by_cases hn : n = 0
      · subst hn; exact Nat.one_pos
      · have := ih (by omega); omega
end
section
/-! ===== sets of few codes: what the model asks of its table is what CodeBreaker asks of its own ===== -/
theorem cbMask_bit (P : Nat → Bool) : ∀ (n j : Nat), (cbMask P n).testBit j = (decide (j < n) && P j)
  | 0, j => by simp [cbMask]
  | n + 1, j => by
    have hlt := cbMask_lt P n
    by_cases hj : j < n
    · rw [decide_eq_true (show j < n + 1 by omega)]
      cases hp : P n with
      | true => rw [cbMask_t hp, Nat.add_comm, Nat.testBit_two_pow_add_gt hj, cbMask_bit P n j, decide_eq_true hj]
      | false => rw [cbMask_f hp, cbMask_bit P n j, decide_eq_true hj]
    · by_cases hjn : j = n
      · subst hjn
        rw [decide_eq_true (show j < j + 1 by omega)]
        cases hp : P j with
        | true => rw [cbMask_t hp, Nat.add_comm, Nat.testBit_two_pow_add_eq, Nat.testBit_lt_two_pow hlt]; rfl
        | false => rw [cbMask_f hp, Nat.testBit_lt_two_pow hlt]; rfl
      · rw [decide_eq_false (show ¬ j < n + 1 by omega), Bool.false_and]
        exact Nat.testBit_lt_two_pow (Nat.lt_of_lt_of_le (cbMask_lt P (n + 1)) (Nat.pow_le_pow_right (by decide) (by omega)))
theorem cbMask_zero {P : Nat → Bool} {n : Nat} (h : cbMask P n = 0) : ∀ k, k < n → P k = false := by
  intro k hk
  have h1 := cbMask_bit P n k
  rw [h, decide_eq_true hk] at h1
  simpa using h1.symm
theorem cbMask_self {u n : Nat} (hu : u < 2 ^ n) : cbMask (fun j => u.testBit j) n = u := by
  rw [cbMask_mod, Nat.mod_eq_of_lt hu]
theorem cbMask_less {P P' : Nat → Bool} {n i : Nat} (h : ∀ k, k < n → P k = true → P' k = true) (hi : i < n) (h1 : P i = false) (h2 : P' i = true) : cbMask P n < cbMask P' n := by
  refine Nat.lt_of_le_of_ne (cbMask_sub h) (fun z => ?_)
  have e1 := cbMask_bit P n i
  have e2 := cbMask_bit P' n i
  rw [z, e2, h1, h2] at e1
  rw [decide_eq_true hi] at e1
  cases e1
theorem cbBit_lt {u n : Nat} (hu : u < 2 ^ n) {j : Nat} (h : u.testBit j = true) : j < n := by
  rcases Nat.lt_or_ge j n with q | q
  · exact q
  · rw [Nat.testBit_lt_two_pow (Nat.lt_of_lt_of_le hu (Nat.pow_le_pow_right (by decide) q))] at h
    cases h
theorem cbBit_ex {u n : Nat} (hu : u < 2 ^ n) (h0 : u ≠ 0) : ∃ k, k < n ∧ u.testBit k = true := by
  cases hc : cbAny (fun j => u.testBit j) n with
  | true => exact cbAny_iff.mp hc
  | false =>
    exfalso
    have h := cbAny_none.mp hc
    apply h0
    rw [← cbMask_self hu]
    have e : cbMask (fun j => u.testBit j) n = cbMask (fun _ => false) n := cbMask_congr h
    rw [e]
    have z : ∀ m, cbMask (fun _ => false) m = 0 := by
      intro m
      induction m with
      | zero => rfl
      | succ m ih => rw [cbMask_f rfl, ih]
    exact z n
theorem cbPt_bit (A : Nat → Nat) (F u t j : Nat) : (cbPt A F u t).testBit j = (decide (j < F) && (u.testBit j && decide (A j = t))) := cbMask_bit _ F j
theorem cbPt_pos {A : Nat → Nat} {F u t j : Nat} (hj : j < F) (hb : u.testBit j = true) (ha : A j = t) : cbPt A F u t ≠ 0 := by
  intro z
  have h := cbPt_bit A F u t j
  rw [z, hb, decide_eq_true hj, decide_eq_true ha] at h
  simp at h
theorem cbPt_mem {A : Nat → Nat} {F u t : Nat} (h : cbPt A F u t ≠ 0) : ∃ j, j < F ∧ u.testBit j = true ∧ A j = t := by
  obtain ⟨j, hj, hb⟩ := cbBit_ex (cbMask_lt (cbQ A u t) F) h
  rw [show (cbMask (cbQ A u t) F).testBit j = _ from cbPt_bit A F u t j, decide_eq_true hj] at hb
  simp only [Bool.true_and, Bool.and_eq_true] at hb
  exact ⟨j, hj, hb.1, of_decide_eq_true hb.2⟩
theorem cbMax_le_iff {F : Nat → Nat} {b : Nat} : ∀ {n : Nat}, cbMax F n ≤ b ↔ ∀ k, k < n → F k ≤ b
  | 0 => ⟨fun _ k hk => absurd hk (Nat.not_lt_zero k), fun _ => Nat.zero_le _⟩
  | n + 1 => by
    constructor
    · intro h k hk
      have h0 : (if cbMax F n < F n then F n else cbMax F n) ≤ b := h
      by_cases hkn : k = n
      · subst hkn
        split at h0 <;> omega
      · refine (cbMax_le_iff (n := n)).mp ?_ k (by omega)
        split at h0 <;> omega
    · intro h
      exact cbMax_bound h
theorem cbLeast_iff {ok : Nat → Bool} {V : Nat → Nat} {b : Nat} (hb : b < 100) : ∀ {n : Nat}, cbLeast ok V n ≤ b ↔ ∃ g, g < n ∧ ok g = true ∧ V g ≤ b
  | 0 => ⟨fun h => absurd (show (100 : Nat) ≤ b from h) (by omega), fun ⟨g, hg, _⟩ => absurd hg (Nat.not_lt_zero g)⟩
  | n + 1 => by
    cases ho : ok n with
    | false =>
      rw [cbLeast_f ho, cbLeast_iff hb]
      constructor
      · rintro ⟨g, h1, h2, h3⟩
        exact ⟨g, by omega, h2, h3⟩
      · rintro ⟨g, h1, h2, h3⟩
        have hgn : g ≠ n := fun z => by rw [z, ho] at h2; cases h2
        exact ⟨g, by omega, h2, h3⟩
    | true =>
      rcases Nat.lt_or_ge (V n) (cbLeast ok V n) with q | q
      · rw [cbLeast_t ho q]
        constructor
        · intro h
          exact ⟨n, by omega, ho, h⟩
        · rintro ⟨g, h1, h2, h3⟩
          by_cases hgn : g = n
          · rw [← hgn]; exact h3
          · have := (cbLeast_iff hb (n := n)).mpr ⟨g, by omega, h2, h3⟩
            omega
      · rw [cbLeast_n ho q]
        constructor
        · intro h
          obtain ⟨g, h1, h2, h3⟩ := (cbLeast_iff hb (n := n)).mp h
          exact ⟨g, by omega, h2, h3⟩
        · rintro ⟨g, h1, h2, h3⟩
          by_cases hgn : g = n
          · rw [hgn] at h3; omega
          · exact (cbLeast_iff hb (n := n)).mpr ⟨g, by omega, h2, h3⟩
/-- a code of the set u that leaves too much behind -/
def cbBadP (A : Nat → Nat) (F al : Nat) (E : Nat → Nat) (u gs j : Nat) : Bool := u.testBit j && (!decide (A j = al) && decide (gs < E (cbPt A F u (A j))))
def cbLv (A : Nat → Nat) (F al : Nat) (E : Nat → Nat) (u gs : Nat) : Bool := !(cbAny (cbBadP A F al E u gs) F)
theorem cbLv_iff {A : Nat → Nat} {F al : Nat} {E T : Nat → Nat} {u gs : Nat} (hgs : gs < 100) (hET : ∀ t, t < u → (E t ≤ gs ↔ T t ≤ gs)) (hu : gs < E u) : cbLv A F al E u gs = true ↔ cbNW A F al T u ≤ gs + 1 := by
  have h1 : cbLv A F al E u gs = true ↔ ∀ k, k < F → u.testBit k = true → A k = al ∨ E (cbPt A F u (A k)) ≤ gs := by
    unfold cbLv
    rw [Bool.not_eq_true', cbAny_none]
    constructor
    · intro h k hk hb
      have h2 := h k hk
      unfold cbBadP at h2
      rw [hb, Bool.true_and] at h2
      by_cases ha : A k = al
      · exact Or.inl ha
      · rw [decide_eq_false ha] at h2
        simp at h2
        exact Or.inr h2
    · intro h k hk
      unfold cbBadP
      cases hb : u.testBit k with
      | false => rfl
      | true =>
        rcases h k hk hb with q | q
        · rw [decide_eq_true q]; rfl
        · rw [decide_eq_false (Nat.not_lt.mpr q)]; simp
  have h2 : cbNW A F al T u ≤ gs + 1 ↔ ∀ k, k < F → cbHere A F al T u k ≤ gs := by
    unfold cbNW
    rw [Nat.add_le_add_iff_right, cbMax_le_iff]
  rw [h1, h2]
  constructor
  · intro h k hk
    by_cases ha : A k = al
    · rw [cbHere_0 (Or.inl ha)]; omega
    · by_cases hp : cbPt A F u (A k) = 0
      · rw [cbHere_0 (Or.inr hp)]; omega
      · obtain ⟨j, hj, hb, hA⟩ := cbPt_mem hp
        have q := (h j hj hb).resolve_left (by rw [hA]; exact ha)
        rw [hA] at q
        have hne : cbPt A F u (A k) ≠ u := fun z => by rw [z] at q; omega
        rw [cbHere_T ha hp hne]
        exact (hET _ (Nat.lt_of_le_of_ne (cbPt_le A F u (A k)) hne)).mp q
  · intro h k hk hb
    by_cases ha : A k = al
    · exact Or.inl ha
    · right
      have hp : cbPt A F u (A k) ≠ 0 := cbPt_pos hk hb rfl
      have q := h k hk
      by_cases hne : cbPt A F u (A k) = u
      · rw [cbHere_1 ha hp hne] at q; omega
      · rw [cbHere_T ha hp hne] at q
        exact (hET _ (Nat.lt_of_le_of_ne (cbPt_le A F u (A k)) hne)).mpr q
/-- the model's table behind m rounds -/
def cbE (T : Nat → Nat) (m t : Nat) : Nat := if T t ≤ m then T t else 100
theorem cbE_le {T : Nat → Nat} (hT : ∀ t, T t ≤ 100) (m t : Nat) : cbE T m t ≤ 100 := by
  unfold cbE
  split
  · exact hT t
  · exact Nat.le_refl _
theorem cbLeast_pos {ok : Nat → Bool} {V : Nat → Nat} (hV : ∀ g, 1 ≤ V g) : ∀ n, 1 ≤ cbLeast ok V n
  | 0 => show (1 : Nat) ≤ 100 by omega
  | n + 1 => by
    have h := cbLeast_pos (ok := ok) hV n
    have h2 := hV n
    show 1 ≤ (if ok n then (if V n < cbLeast ok V n then V n else cbLeast ok V n) else cbLeast ok V n)
    split
    · split <;> assumption
    · exact h
theorem cbT_pos (A : Nat → Nat → Nat) (fc : Nat → Nat) (F al N w : Nat) {u : Nat} (hu : 1 ≤ u) : 1 ≤ cbT A fc F al N w u := by
  rw [cbT_s _ _ _ _ _ _ hu]
  exact cbLeast_pos (fun g => Nat.le_add_left _ _) N
theorem cbOkG_sel {fc : Nat → Nat} {F w u k : Nat} (hk : k < F) (hb : u.testBit k = true) : cbOkG fc F w u (fc k) = true := by
  unfold cbOkG cbIn
  rw [cbAny_iff.mpr ⟨k, hk, by rw [hb]; simp⟩, Bool.or_true]
theorem cbCnt_less {P P' : Nat → Bool} {i : Nat} : ∀ {n : Nat}, (∀ k, k < n → P k = true → P' k = true) → i < n → P i = false → P' i = true → cbCnt P n + 1 ≤ cbCnt P' n
  | 0, _, hi, _, _ => absurd hi (Nat.not_lt_zero i)
  | n + 1, h, hi, h1, h2 => by
    have mono : ∀ m, (∀ k, k < m → P k = true → P' k = true) → cbCnt P m ≤ cbCnt P' m := by
      intro m hm
      induction m with
      | zero => exact Nat.le_refl _
      | succ m ih =>
        have h3 := ih (fun k hk => hm k (by omega))
        cases hp : P m with
        | true => rw [cbCnt_t hp, cbCnt_t (hm m (by omega) hp)]; omega
        | false =>
          rw [cbCnt_f hp]
          show _ ≤ (if P' m then cbCnt P' m + 1 else cbCnt P' m)
          split <;> omega
    by_cases hin : i = n
    · subst hin
      rw [cbCnt_f h1, cbCnt_t h2]
      have := mono i (fun k hk => h k (by omega))
      omega
    · have h3 := cbCnt_less (P := P) (P' := P') (i := i) (n := n) (fun k hk => h k (by omega)) (by omega) h1 h2
      cases hp : P n with
      | true => rw [cbCnt_t hp, cbCnt_t (h n (by omega) hp)]; omega
      | false =>
        rw [cbCnt_f hp]
        show _ ≤ (if P' n then cbCnt P' n + 1 else cbCnt P' n)
        split <;> omega
/-- a set of k codes needs at most k guesses -/
theorem cbT_card (A : Nat → Nat → Nat) (fc : Nat → Nat) (F al N w : Nat) (hF : F < 100) (hfc : ∀ k, k < F → fc k < N) (hA : ∀ k, k < F → A (fc k) k = al) : ∀ u, u < 2 ^ F → cbT A fc F al N w u ≤ cbCnt (fun j => u.testBit j) F := by
  intro u
  induction u using Nat.strongRecOn with
  | ind u ih =>
    intro hu
    by_cases h0 : u = 0
    · rw [h0, cbT_0]; exact Nat.zero_le _
    · obtain ⟨k, hk, hb⟩ := cbBit_ex hu h0
      obtain ⟨K, hK⟩ : ∃ K, K = cbCnt (fun j => u.testBit j) F := ⟨_, rfl⟩
      have hKF : K ≤ F := by rw [hK]; exact cbCnt_le _ _
      have hle : ∀ j, j < F → cbHere (A (fc k)) F al (cbT A fc F al N w) u j + 1 ≤ K := by
        intro j hj
        have hK1 : 1 ≤ K := by
          rcases Nat.eq_zero_or_pos K with q | q
          · rw [hK] at q
            have := cbCnt_zero.mp q k hk
            rw [hb] at this
            cases this
          · exact q
        by_cases ha : A (fc k) j = al
        · rw [cbHere_0 (Or.inl ha)]; omega
        · by_cases hp : cbPt (A (fc k)) F u (A (fc k) j) = 0
          · rw [cbHere_0 (Or.inr hp)]; omega
          · have hkp : (cbPt (A (fc k)) F u (A (fc k) j)).testBit k = false := by
              rw [cbPt_bit, decide_eq_false (show ¬ A (fc k) k = A (fc k) j by rw [hA k hk]; exact Ne.symm ha)]
              simp
            have hne : cbPt (A (fc k)) F u (A (fc k) j) ≠ u := fun z => by
              rw [z, hb] at hkp
              cases hkp
            rw [cbHere_T ha hp hne]
            have hlt : cbPt (A (fc k)) F u (A (fc k) j) < u := Nat.lt_of_le_of_ne (cbPt_le _ _ _ _) hne
            have h1 := ih _ hlt (by omega)
            have h2 : cbCnt (fun i => (cbPt (A (fc k)) F u (A (fc k) j)).testBit i) F + 1 ≤ K := by
              rw [hK]
              exact cbCnt_less (fun i _ hi => by
                rw [cbPt_bit] at hi
                simp only [Bool.and_eq_true] at hi
                exact hi.2.1) hk hkp hb
            omega
      have h3 : cbNW (A (fc k)) F al (cbT A fc F al N w) u ≤ K := by
        unfold cbNW
        have : cbMax (cbHere (A (fc k)) F al (cbT A fc F al N w) u) F ≤ K - 1 := cbMax_bound (fun j hj => by have := hle j hj; omega)
        have h4 := hle k hk
        omega
      rw [cbT_s _ _ _ _ _ _ (by omega), ← hK]
      exact (cbLeast_iff (by omega)).mpr ⟨fc k, hfc k hk, cbOkG_sel hk hb, h3⟩
theorem cbE_100 {T : Nat → Nat} {m t : Nat} (hm : m < 100) (h : cbE T m t = 100) : m < T t := by
  unfold cbE at h
  split at h <;> omega
theorem cbE_not {T : Nat → Nat} {m t : Nat} (h : cbE T m t ≠ 100) : cbE T m t = T t ∧ T t ≤ m := by
  unfold cbE at h ⊢
  split at h
  · rename_i q
    rw [if_pos q]
    exact ⟨rfl, q⟩
  · exact absurd rfl h
theorem cbE_next {T : Nat → Nat} {m t : Nat} (h1 : 1 ≤ m) (h : cbE T (m - 1) t ≠ 100) : cbE T m t = cbE T (m - 1) t := by
  obtain ⟨e, q⟩ := cbE_not h
  rw [e]
  unfold cbE
  rw [if_pos (by omega)]
theorem cbE_new {T : Nat → Nat} {m t : Nat} (h1 : 1 ≤ m) (hm : m < 100) (h : cbE T (m - 1) t = 100) (h2 : T t ≤ m) : cbE T m t = m := by
  have := cbE_100 (by omega) h
  unfold cbE
  rw [if_pos h2]
  omega
theorem cbE_old {T : Nat → Nat} {m t : Nat} (h : ¬ T t ≤ m) : cbE T m t = 100 := if_neg h
/-- one question of the model in round m -/
theorem cb_round {A : Nat → Nat → Nat} {fc : Nat → Nat} {F al N w m u : Nat} {E T : Nat → Nat} (hT : T = cbT A fc F al N w) (h1 : 1 ≤ m) (hm : m < 100) (hu : 1 ≤ u) (hE : ∀ t, t < u → E t = cbE T m t) (hEu : E u = 100) (hTu : m - 1 < T u) :
    cbAny (fun g => cbOkG fc F w u g && cbLv (A g) F al E u (m - 1)) N = decide (T u ≤ m) := by
  have hET : ∀ t, t < u → (E t ≤ m - 1 ↔ T t ≤ m - 1) := by
    intro t ht
    rw [hE t ht]
    unfold cbE
    split <;> omega
  have hx : T u ≤ m ↔ ∃ g, g < N ∧ cbOkG fc F w u g = true ∧ cbNW (A g) F al T u ≤ m := by
    rw [hT, cbT_s _ _ _ _ _ _ hu]
    exact cbLeast_iff hm
  have hy : ∀ g, (cbLv (A g) F al E u (m - 1) = true ↔ cbNW (A g) F al T u ≤ m) := by
    intro g
    have := cbLv_iff (A := A g) (F := F) (al := al) (E := E) (T := T) (u := u) (gs := m - 1) (by omega) hET (by omega)
    rw [this, Nat.sub_add_cancel h1]
  by_cases h : T u ≤ m
  · rw [decide_eq_true h]
    obtain ⟨g, g1, g2, g3⟩ := hx.mp h
    refine cbAny_iff.mpr ⟨g, g1, ?_⟩
    rw [g2, (hy g).mpr g3]; rfl
  · rw [decide_eq_false h]
    refine cbAny_none.mpr (fun g hg => ?_)
    cases hc : (cbOkG fc F w u g && cbLv (A g) F al E u (m - 1)) with
    | false => rfl
    | true =>
      rw [Bool.and_eq_true] at hc
      exact absurd (hx.mpr ⟨g, hg, hc.1, (hy g).mp hc.2⟩) h
/-- the model's test of a first guess is CodeBreaker's -/
theorem cb_first {A : Nat → Nat → Nat} {fc : Nat → Nat} {F al N u mm : Nat} {E T : Nat → Nat} (hT : T = cbT A fc F al N 0) (hu : 1 ≤ u) (h1 : T u ≤ mm) (hm : mm < 100) (hE : ∀ t, t ≤ u → E t = cbE T mm t) {g : Nat} (hg : g < N) :
    cbLv (A g) F al E u (T u - 1) = decide (cbNW (A g) F al T u = T u) := by
  have hp : 1 ≤ T u := by rw [hT]; exact cbT_pos _ _ _ _ _ _ hu
  have hET : ∀ t, t < u → (E t ≤ T u - 1 ↔ T t ≤ T u - 1) := by
    intro t ht
    rw [hE t (by omega)]
    unfold cbE
    split <;> omega
  have hEu : T u - 1 < E u := by
    rw [hE u (Nat.le_refl _)]
    unfold cbE
    rw [if_pos h1]
    omega
  have hmin : T u ≤ cbNW (A g) F al T u := by
    rcases Nat.lt_or_ge (cbNW (A g) F al T u) (T u) with q | q
    · exfalso
      have hx : T u ≤ cbNW (A g) F al T u ↔ ∃ g', g' < N ∧ cbOkG fc F 0 u g' = true ∧ cbNW (A g') F al T u ≤ cbNW (A g) F al T u := by
        have e : T u = cbLeast (cbOkG fc F 0 u) (fun g => cbNW (A g) F al T u) N := by
          rw [hT, cbT_s _ _ _ _ _ _ hu]; rfl
        rw [show (T u ≤ cbNW (A g) F al T u) = (cbLeast (cbOkG fc F 0 u) (fun g => cbNW (A g) F al T u) N ≤ cbNW (A g) F al T u) by rw [← e]]
        exact cbLeast_iff (by omega)
      have := hx.mpr ⟨g, hg, rfl, Nat.le_refl _⟩
      omega
    · exact q
  have hy := cbLv_iff (A := A g) (F := F) (al := al) (E := E) (T := T) (u := u) (gs := T u - 1) (by omega) hET hEu
  by_cases h : cbNW (A g) F al T u = T u
  · rw [decide_eq_true h, hy]; omega
  · rw [decide_eq_false h]
    cases hc : cbLv (A g) F al E u (T u - 1) with
    | false => rfl
    | true =>
      have := hy.mp hc
      omega
/-- there is a first guess -/
theorem cb_first_ex {A : Nat → Nat → Nat} {fc : Nat → Nat} {F al N u : Nat} {T : Nat → Nat} (hT : T = cbT A fc F al N 0) (hu : 1 ≤ u) (hm : T u < 100) : ∃ g, g < N ∧ cbNW (A g) F al T u ≤ T u := by
  have e : T u = cbLeast (cbOkG fc F 0 u) (fun g => cbNW (A g) F al T u) N := by
    rw [hT, cbT_s _ _ _ _ _ _ hu]; rfl
  obtain ⟨g, h1, -, h3⟩ := (cbLeast_iff (ok := cbOkG fc F 0 u) (V := fun g => cbNW (A g) F al T u) (n := N) hm).mp (by rw [← e]; exact Nat.le_refl _)
  exact ⟨g, h1, h3⟩
/-! two rows of kit/laws/BITS.to-paste -/
theorem nx_and (a b : Nat) : nI a &&& nI b = nI (a &&& b) := by
  apply Int32.toBitVec_inj.1
  show BitVec.ofNat 32 a &&& BitVec.ofNat 32 b = BitVec.ofNat 32 (a &&& b)
  apply BitVec.eq_of_getLsbD_eq
  intro i hi
  simp [hi]
theorem nx_xor (a b : Nat) : nI a ^^^ nI b = nI (a ^^^ b) := by
  apply Int32.toBitVec_inj.1
  show BitVec.ofNat 32 a ^^^ BitVec.ofNat 32 b = BitVec.ofNat 32 (a ^^^ b)
  apply BitVec.eq_of_getLsbD_eq
  intro i hi
  simp [hi]
/-- the part is taken out of the rest -/
theorem cb_rest {A : Nat → Nat} {F u q i : Nat} {Dn : Nat → Bool} (hF : F ≤ 8) (hq : q = cbMask (fun j => u.testBit j && !Dn (A j)) F) : nI q &&& (nI (cbPt A F q (A i)) ^^^ -1) = nI (cbMask (fun j => u.testBit j && !(Dn (A j) || decide (A j = A i))) F) := by
  rw [show (-1 : Int32) = nI 4294967295 by decide, nx_xor, nx_and]
  refine congrArg nI (Nat.eq_of_testBit_eq (fun j => ?_))
  rw [Nat.testBit_and, Nat.testBit_xor, show (4294967295 : Nat) = 2 ^ 32 - 1 from rfl, Nat.testBit_two_pow_sub_one, cbPt_bit, cbMask_bit, hq, cbMask_bit]
  by_cases hj : j < F
  · rw [decide_eq_true hj, decide_eq_true (show j < 32 by omega)]
    cases u.testBit j <;> cases Dn (A j) <;> cases decide (A j = A i) <;> rfl
  · rw [decide_eq_false hj]
    rfl
/-- what is left holds the whole part -/
theorem cb_restPt {A : Nat → Nat} {F u q i : Nat} {Dn : Nat → Bool} (hq : q = cbMask (fun j => u.testBit j && !Dn (A j)) F) (hi : Dn (A i) = false) : cbPt A F q (A i) = cbPt A F u (A i) := by
  refine cbMask_congr (fun j hj => ?_)
  unfold cbQ
  rw [hq, cbMask_bit, decide_eq_true hj]
  by_cases ha : A j = A i
  · rw [ha, hi]; simp
  · rw [decide_eq_false ha]; simp
theorem cb_e1 {T : Nat → Nat} {q u : Nat} (h1 : 1 ≤ q) (hq : q < 100) (hT : T u ≤ 100) (h : (decide (cbE T (q - 1) u = 100) && decide (T u ≤ q)).toNat = 0) : nI (cbE T (q - 1) u) = nI (cbE T q u) := by
  refine congrArg nI ?_
  by_cases h2 : cbE T (q - 1) u = 100
  · rw [decide_eq_true h2] at h
    have h3 : ¬ T u ≤ q := fun z => by rw [decide_eq_true z] at h; cases h
    rw [h2, cbE_old h3]
  · exact (cbE_next h1 h2).symm
theorem cb_e2 {T : Nat → Nat} {q u : Nat} (h1 : 1 ≤ q) (hq : q < 100) (h : (decide (cbE T (q - 1) u = 100) && decide (T u ≤ q)).toNat ≠ 0) : nI q = nI (cbE T q u) := by
  refine congrArg nI ?_
  by_cases h2 : cbE T (q - 1) u = 100
  · by_cases h3 : T u ≤ q
    · exact (cbE_new h1 hq h2 h3).symm
    · rw [decide_eq_false h3, Bool.and_false] at h; exact absurd rfl h
  · rw [decide_eq_false h2] at h; exact absurd rfl h
theorem cb_b1 {b : Bool} (h : b.toNat ≠ 0) : b.toNat = 1 := by
  cases b with
  | true => rfl
  | false => exact absurd rfl h
end
section
/-! ===== the constructors: clamped arguments, a row for new int arrays ===== -/
/-- the argument brought between 1 and hi -/
def cbClamp (hi : Nat) (x : Int32) : Nat := if nI 1 ≤ x then (if x ≤ nI hi then x.toNatClampNeg else hi) else 1
theorem cbClamp_v {hi : Nat} {x : Int32} (h1 : nI 1 ≤ x) (h2 : x ≤ nI hi) (hh : hi < 2 ^ 31) : x = nI (cbClamp hi x) ∧ 1 ≤ cbClamp hi x ∧ cbClamp hi x ≤ hi := by
  have h0 : ¬ x < 0 := by
    have : (0 : Int32) < nI 1 := by decide
    exact Int32.not_lt.mpr (Int32.le_trans (Int32.le_of_lt this) h1)
  obtain ⟨j, hj, e⟩ := nI_of h0
  have hv : cbClamp hi x = j := by
    unfold cbClamp
    rw [if_pos h1, if_pos h2, e, nI_clamp hj]
  rw [hv]
  rw [e] at h1 h2
  exact ⟨e, (nI_leI (by decide) hj).mp h1, (nI_leI hj hh).mp h2⟩
theorem cbClamp_hi {hi : Nat} {x : Int32} (h1 : nI 1 ≤ x) (h2 : ¬ x ≤ nI hi) : cbClamp hi x = hi := by
  unfold cbClamp
  rw [if_pos h1, if_neg h2]
theorem cbClamp_lo {hi : Nat} {x : Int32} (h1 : ¬ nI 1 ≤ x) : cbClamp hi x = 1 := by
  unfold cbClamp
  rw [if_neg h1]
theorem cbClamp_in {hi : Nat} (h : 1 ≤ hi) (hh : hi < 2 ^ 31) (x : Int32) : 1 ≤ cbClamp hi x ∧ cbClamp hi x ≤ hi := by
  by_cases h1 : nI 1 ≤ x
  · by_cases h2 : x ≤ nI hi
    · exact (cbClamp_v h1 h2 hh).2
    · rw [cbClamp_hi h1 h2]; omega
  · rw [cbClamp_lo h1]; omega
theorem cbPow_le : ∀ D, D ≤ 3 → ∀ L, L ≤ 4 → D ^ L ≤ 81 := by decide +kernel
/-- a new int array -/
theorem va_newi {p : Program} {l : Launch} {e : Env} {R : Room} {s : State} {m : MethodId} {args : Array Value} {below : List Frame} {meth : Method} {c : Code} {H H0 : Heap} {locs : List Loc} {cells slots : Nat} {Q : State → Prop} {cc : ByteArray} {pc : Nat} {ls : Array Slot} {rest : List Value} {D : va_G} {d : ClassId} {A : Nat → Prop} {cl : List vw_C} {ws : va_W}
    (hx : p.tables.exec = Jvm.exec) (hb : c.code = cc) (harr : (Cond.arrayClass .int).before args s = true) (hK : va_K D cl [(d, .int)] s) (hP : va_P D cl ws H) (hD : va_D A ws) (hS : va_S A H0 H locs) (hA : ∀ q, H0.size ≤ q → A q) (n : Nat) (hn : n < 2 ^ 20) (hcells : cells + 1 ≤ R.cells) (hslots : slots + n ≤ R.slots) (hdg : decode cc pc = .ok (.newarray .int, 2))
    (kk : ∀ (q : Nat) (H1 : Heap), va_P D cl (ws ++ [(q, .inl (d, n, .inl (fun _ => 0)))]) H1 → va_D A (ws ++ [(q, .inl (d, n, .inl (fun _ => 0)))]) → va_S A H0 H1 locs → W p l e R s m args below meth c H1 locs (cells + 1) (slots + n) Q (F0 m (pc + 2) ls (.ref q :: rest))) :
    W p l e R s m args below meth c H locs cells slots Q (F0 m pc ls (.int (nI n) :: rest)) := by
  refine va_newa (atype := .int) (ty := .int) (a0 := (n, .inl (fun _ => 0))) hx hb harr rfl hK hP hD hS hA (fun cA => rfl) (nI_pos (by omega)) (nI_clamp (by omega)) (by show n * 4 ≤ _; omega) hcells hslots hdg (fun q cA H1 k1 a1 a2 a3 => ?_)
  have e1 : s.vm.findClass ("[" ++ FieldType.int.toString) = some d := (k1.2 0 (d, .int) rfl).2
  have e2 : s.vm.findClass ("[" ++ FieldType.int.toString) = some cA := (k1.2 1 (cA, .int) rfl).2
  have e3 : cA = d := Option.some.inj (e2.symm.trans e1)
  subst e3
  exact kk q H1 a1 a2 a3
/-- the int arrays are known -/
theorem va_Kint {s : State} {args : Array Value} {D : va_G} {cl : List vw_C} (harr : (Cond.arrayClass .int).before args s = true) (hK : ∀ (c : Nat) (q : vw_C), cl[c]? = some q → u_Kn s q.1 q.2.1 q.2.2 (D.1 c) (D.2 c)) : ∃ d : ClassId, va_K D cl [(d, .int)] s := by
  obtain ⟨cA, kA, comp, h1, h2, h3⟩ := Cond.arrayClass_spec harr
  refine ⟨cA, hK, fun k q hk => ?_⟩
  have hz : k < 1 := (List.getElem?_eq_some_iff.mp hk).1
  rw [show k = 0 by omega] at hk
  cases hk
  exact ⟨fun n z => ⟨fun k h => (by cases h), kA, h2, comp, h3⟩, h1⟩
end
section
/-! ===== useful tellings, seen by both ===== -/
theorem cbCnt_split {P : Nat → Bool} {k : Nat} : ∀ {c : Nat}, k < c → P k = true → cbCnt P c = cbCnt (fun j => P j && !decide (j = k)) c + 1
  | 0, h, _ => absurd h (Nat.not_lt_zero k)
  | c + 1, h, hp => by
    by_cases hk : k = c
    · subst hk
      rw [cbCnt_t hp, cbCnt_f (P := fun j => P j && !decide (j = k)) (by simp)]
      rw [cbCnt_congr (P := P) (P' := fun j => P j && !decide (j = k)) (n := k) (fun j hj => by rw [decide_eq_false (show ¬ j = k by omega)]; simp)]
    · have ih := cbCnt_split (P := P) (k := k) (c := c) (by omega) hp
      have hd : decide (c = k) = false := decide_eq_false (Ne.symm hk)
      cases hc : P c with
      | true => rw [cbCnt_t hc, cbCnt_t (P := fun j => P j && !decide (j = k)) (by rw [hc, hd]; rfl), ih]
      | false => rw [cbCnt_f hc, cbCnt_f (P := fun j => P j && !decide (j = k)) (by rw [hc]; rfl), ih]
theorem cbUse_eq {L D : Nat} {G B : Nat → Nat} {c N : Nat} (hc : c ≤ 8) : cbCnt (fun i => decide (cbCnt (cbPos L D G B c) N < cbCnt (cbAgr L D G B c i) N)) c = cbUse L D G B c N := by
  refine cbCnt_congr (fun k hk => ?_)
  have hpos : ∀ x, cbPos L D G B c x = true ↔ ∀ j, j < c → cbAns L D (G j) x = B j := by
    intro x
    unfold cbPos
    rw [decide_eq_true_iff]
    unfold cbBad
    rw [cbCnt_zero]
    constructor
    · intro h j hj
      have := h j hj
      simpa using this
    · intro h j hj
      simp [h j hj]
  have hagr : ∀ x, cbAgr L D G B c k x = true ↔ ∀ j, j < c → j ≠ k → cbAns L D (G j) x = B j := by
    intro x
    unfold cbAgr
    rw [Bool.not_eq_true', cbAny_none]
    constructor
    · intro h j hj hjk
      have := h j hj
      unfold cbDis at this
      rw [decide_eq_false hjk] at this
      simpa using this
    · intro h j hj
      unfold cbDis
      by_cases hjk : j = k
      · rw [decide_eq_true hjk]; rfl
      · rw [decide_eq_true (h j hj hjk)]; simp
  have hsole : ∀ x, cbSole L D G B c k x = true ↔ (∀ j, j < c → j ≠ k → cbAns L D (G j) x = B j) ∧ ¬ cbAns L D (G k) x = B k := by
    intro x
    unfold cbSole
    rw [Bool.and_eq_true, decide_eq_true_iff]
    constructor
    · rintro ⟨h1, h2⟩
      have h2 : ¬ cbAns L D (G k) x = B k := by simpa using h2
      refine ⟨fun j hj hjk => ?_, h2⟩
      unfold cbBad at h1
      rw [cbCnt_split (k := k) hk (by simp [h2])] at h1
      have h3 := cbCnt_zero.mp (show cbCnt (fun j => (!decide (cbAns L D (G j) x = B j)) && !decide (j = k)) c = 0 by omega) j hj
      rw [decide_eq_false hjk] at h3
      simpa using h3
    · rintro ⟨h1, h2⟩
      refine ⟨?_, by simp [h2]⟩
      unfold cbBad
      rw [cbCnt_split (k := k) hk (by simp [h2])]
      have : cbCnt (fun j => (!decide (cbAns L D (G j) x = B j)) && !decide (j = k)) c = 0 := cbCnt_zero.mpr (fun j hj => by
        by_cases hjk : j = k
        · rw [decide_eq_true hjk]; simp
        · simp [h1 j hj hjk])
      omega
  have hsub : ∀ x, x < N → cbPos L D G B c x = true → cbAgr L D G B c k x = true := fun x _ h => (hagr x).mpr (fun j hj _ => (hpos x).mp h j hj)
  by_cases h : cbAny (cbSole L D G B c k) N = true
  · rw [h]
    obtain ⟨x, hx, hs⟩ := cbAny_iff.mp h
    refine decide_eq_true ?_
    have hs := (hsole x).mp hs
    refine cbCnt_less hsub hx ?_ ((hagr x).mpr hs.1)
    cases hp : cbPos L D G B c x with
    | false => rfl
    | true => exact absurd ((hpos x).mp hp k hk) hs.2
  · have h : cbAny (cbSole L D G B c k) N = false := by
      cases hq : cbAny (cbSole L D G B c k) N with
      | false => rfl
      | true => exact absurd hq h
    rw [h]
    refine decide_eq_false ?_
    rw [cbCnt_congr (P := cbAgr L D G B c k) (P' := cbPos L D G B c) (n := N) (fun x hx => ?_)]
    · exact Nat.lt_irrefl _
    · cases ha : cbAgr L D G B c k x with
      | false =>
        cases hp : cbPos L D G B c x with
        | false => rfl
        | true => rw [hsub x hx hp] at ha; cases ha
      | true =>
        symm
        refine (hpos x).mpr (fun j hj => ?_)
        by_cases hjk : j = k
        · subst hjk
          have hs := cbAny_none.mp h x hx
          by_cases hq : cbAns L D (G j) x = B j
          · exact hq
          · rw [(hsole x).mpr ⟨(hagr x).mp ha, hq⟩] at hs
            cases hs
        · exact (hagr x).mp ha j hj hjk
end
section
set_option maxRecDepth 100000
set_option maxHeartbeats 4000000 in
set_option maxRecDepth 100000 in
theorem metX_codes (l : Launch) (DD : va_G) (dd : ClassId) (h : Nat) (a : Nat → Nat) (f : Nat → Int32) (r : Nat → Nat → Int32) {L D N : Nat} (gm : geoX L D N f r) : mG l wX yX1_codes cX1_codes 1 .int (rmK 0) DD dd h a f r [] (fun v f' r' => v = nI N ∧ f' = f ∧ r' = r) := by
  refine mG_start (by decide) (Nat.le_of_ble_eq_true rfl) ?_
  intro p ee s m args below meth cd AA Q ls C I hl ret
  have hx := C.1
  have hb := C.2.1
  have hl : lv_has ls 1 [(0, .ref h)] := hl
  refine lv_aload_n hx hb dX1_codes_0 rfl (lv_at hl 0 rfl) ?_
  refine gX_2 C I (v := nI (N)) (gm.2.2.2.1) dX1_codes_1 ?_
  exact ret _ _ _ _ _ _ _ dX1_codes_4 (rfl) I (⟨rfl, rfl, rfl⟩)
set_option maxHeartbeats 4000000 in
set_option maxRecDepth 100000 in
theorem metX_told (l : Launch) (DD : va_G) (dd : ClassId) (h : Nat) (a : Nat → Nat) (f : Nat → Int32) (r : Nat → Nat → Int32) {L D N c : Nat} {G B : Nat → Nat} (sx : stX L D N c G B f r) : mG l wX yX1_told cX1_told 1 .int (rmK 0) DD dd h a f r [] (fun v f' r' => v = nI c ∧ f' = f ∧ r' = r) := by
  refine mG_start (by decide) (Nat.le_of_ble_eq_true rfl) ?_
  intro p ee s m args below meth cd AA Q ls C I hl ret
  have hx := C.1
  have hb := C.2.1
  have hl : lv_has ls 1 [(0, .ref h)] := hl
  refine lv_aload_n hx hb dX1_told_0 rfl (lv_at hl 0 rfl) ?_
  refine gX_5 C I (v := nI (c)) (sx.2.2.1) dX1_told_1 ?_
  exact ret _ _ _ _ _ _ _ dX1_told_4 (rfl) I (⟨rfl, rfl, rfl⟩)
set_option maxHeartbeats 4000000 in
set_option maxRecDepth 100000 in
theorem metX_badCode (l : Launch) (DD : va_G) (dd : ClassId) (h : Nat) (a : Nat → Nat) (f : Nat → Int32) (r : Nat → Nat → Int32) {L D N : Nat} (x : Int32) (gm : geoX L D N f r) : mG l wX yX1_badCode cX1_badCode 2 .boolean (rmK 0) DD dd h a f r [.int (x)] (fun v f' r' => (v = nI 1 ∧ ¬ cbIs N x ∨ v = nI 0 ∧ cbIs N x) ∧ f' = f ∧ r' = r) := by
  refine mG_start (by decide) (Nat.le_of_ble_eq_true rfl) ?_
  intro p ee s m args below meth cd AA Q ls C I hl ret
  have hx := C.1
  have hb := C.2.1
  have hl : lv_has ls 2 [(0, .ref h), (1, .int (x))] := hl
  obtain ⟨hL1, hL4, hD1, hD3, hN1, hN81, hNe⟩ := gm.1
  refine lv_iload_n hx hb dX1_badCode_0 rfl (lv_at hl 1 rfl) ?_
  refine lv_if_lt (tgt := 12) hx hb dX1_badCode_1 (by decide) (fun c1 => ?_) (fun c1 => ?_)
  · have hq : nI 1 = nI 1 ∧ ¬ cbIs N x ∨ nI 1 = nI 0 ∧ cbIs N x := Or.inl ⟨rfl, cbIs_neg (by omega) c1⟩
    refine lv_iconst (v := nI 1) hx hb dX1_badCode_12 (by decide) ?_
    refine lv_goto (tgt := 17) hx hb dX1_badCode_13 (by decide) ?_
    exact ret _ _ _ _ _ _ _ dX1_badCode_17 (rfl) I (⟨hq, rfl, rfl⟩)
  · refine lv_iload_n hx hb dX1_badCode_4 rfl (lv_at hl 1 rfl) ?_
    refine lv_aload_n hx hb dX1_badCode_5 rfl (lv_at hl 0 rfl) ?_
    refine gX_2 C I (v := nI (N)) (gm.2.2.2.1) dX1_badCode_6 ?_
    refine lv_icmp_lt (tgt := 16) hx hb dX1_badCode_9 (by decide) (fun c9 => ?_) (fun c9 => ?_)
    · have hq : nI 0 = nI 1 ∧ ¬ cbIs N x ∨ nI 0 = nI 0 ∧ cbIs N x := Or.inr ⟨rfl, cbIs_of (by omega) c1 c9⟩
      refine lv_iconst (v := nI 0) hx hb dX1_badCode_16 (by decide) ?_
      exact ret _ _ _ _ _ _ _ dX1_badCode_17 (rfl) I (⟨hq, rfl, rfl⟩)
    · have hq : nI 1 = nI 1 ∧ ¬ cbIs N x ∨ nI 1 = nI 0 ∧ cbIs N x := Or.inl ⟨rfl, cbIs_big (by omega) c9⟩
      refine lv_iconst (v := nI 1) hx hb dX1_badCode_12 (by decide) ?_
      refine lv_goto (tgt := 17) hx hb dX1_badCode_13 (by decide) ?_
      exact ret _ _ _ _ _ _ _ dX1_badCode_17 (rfl) I (⟨hq, rfl, rfl⟩)
set_option maxHeartbeats 4000000 in
set_option maxRecDepth 100000 in
theorem metX_answerTo (l : Launch) (DD : va_G) (dd : ClassId) (h : Nat) (a : Nat → Nat) (f : Nat → Int32) (r : Nat → Nat → Int32) {L D N : Nat} (g q : Nat) (gm : geoX L D N f r) (hg : g < N) (hq : q < N) : mG l wX yX1_answerTo cX1_answerTo 8 .int (rmK 0) DD dd h a f r [.int (nI g), .int (nI q)] (fun v f' r' => v = nI (cbAns L D g q) ∧ f' = f ∧ r' = r) := by
  refine mG_start (by decide) (Nat.le_of_ble_eq_true rfl) ?_
  intro p ee s m args below meth cd AA Q ls C I hl ret
  have hx := C.1
  have hb := C.2.1
  have hl : lv_has ls 8 [(0, .ref h), (1, .int (nI g)), (2, .int (nI q))] := hl
  obtain ⟨hL1, hL4, hD1, hD3, hN1, hN81, hNe⟩ := gm.1
  obtain ⟨P, hP⟩ : ∃ P : Nat → Bool, P = (fun i => decide (cbD D g (L - 1 - i) = cbD D q (L - 1 - i))) := ⟨_, rfl⟩
  obtain ⟨F, hF⟩ : ∃ F : Nat → Nat, F = (fun d => cbMin (cbTimes L D g d) (cbTimes L D q d)) := ⟨_, rfl⟩
  refine lv_iconst (v := nI 0) hx hb dX1_answerTo_0 (by decide) ?_
  refine lv_istore_n (lv' := [(3, .int (nI 0)), (0, .ref h), (1, .int (nI g)), (2, .int (nI q))]) hx hb dX1_answerTo_1 rfl hl (by decide) rfl (fun ls hl => ?_)
  refine lv_iconst (v := nI 0) hx hb dX1_answerTo_2 (by decide) ?_
  refine lv_istore (lv' := [(4, .int (nI 0)), (3, .int (nI 0)), (0, .ref h), (1, .int (nI g)), (2, .int (nI q))]) hx hb dX1_answerTo_3 hl (by decide) rfl (fun ls hl => ?_)
  have loop5 : ∀ (n : Nat) (i : Nat) (H : Heap) (locs : List Loc) (ls : Array Slot), (L < i + n) → (i ≤ L) → iG wX DD dd AA s.heap h a f r H locs → lv_has ls 8 [(0, .ref h), (1, .int (nI g)), (2, .int (nI q)), (3, .int (nI (cbCnt P i))), (4, .int (nI i))] → W p l ee (rmK 0) s m args below meth cd H locs 0 0 Q (F0 m 5 ls []) := by
    intro n
    induction n with
    | zero =>
      intros; exfalso; omega
    | succ n ih =>
      intro i H locs ls h1 h2 I hl
      refine lv_iload hx hb dX1_answerTo_5 (lv_at hl 4 rfl) ?_
      refine lv_aload_n hx hb dX1_answerTo_7 rfl (lv_at hl 0 rfl) ?_
      refine gX_0 C I (v := nI (L)) (gm.2.1) dX1_answerTo_8 ?_
      refine n_icge (tgt := 53) hx hb (by omega) (by omega) dX1_answerTo_11 (by decide) (fun c11 => ?_) (fun c11 => ?_)
      · have e5 : L = i := by omega
        subst e5
        rw [hP, cbSame_rev] at hl
        refine lv_iconst (v := nI 0) hx hb dX1_answerTo_53 (by decide) ?_
        refine lv_istore (lv' := [(4, .int (nI 0)), (0, .ref h), (1, .int (nI g)), (2, .int (nI q)), (3, .int (nI (cbSame L D g q)))]) hx hb dX1_answerTo_54 hl (by decide) rfl (fun ls hl => ?_)
        refine lv_iconst (v := nI 0) hx hb dX1_answerTo_56 (by decide) ?_
        refine lv_istore (lv' := [(5, .int (nI 0)), (4, .int (nI 0)), (0, .ref h), (1, .int (nI g)), (2, .int (nI q)), (3, .int (nI (cbSame L D g q)))]) hx hb dX1_answerTo_57 hl (by decide) rfl (fun ls hl => ?_)
        have loop59 : ∀ (n : Nat) (j : Nat) (H : Heap) (locs : List Loc) (ls : Array Slot), (D < j + n) → (j ≤ D) → iG wX DD dd AA s.heap h a f r H locs → lv_has ls 8 [(0, .ref h), (1, .int (nI g)), (2, .int (nI q)), (3, .int (nI (cbSame L D g q))), (4, .int (nI (cbSum F j))), (5, .int (nI j))] → W p l ee (rmK 0) s m args below meth cd H locs 0 0 Q (F0 m 59 ls []) := by
          intro n
          induction n with
          | zero =>
            intros; exfalso; omega
          | succ n ih =>
            intro j H locs ls h3 h4 I hl
            refine lv_iload hx hb dX1_answerTo_59 (lv_at hl 5 rfl) ?_
            refine lv_aload_n hx hb dX1_answerTo_61 rfl (lv_at hl 0 rfl) ?_
            refine gX_1 C I (v := nI (D)) (gm.2.2.1) dX1_answerTo_62 ?_
            refine n_icge (tgt := 119) hx hb (by omega) (by omega) dX1_answerTo_65 (by decide) (fun c65 => ?_) (fun c65 => ?_)
            · have e6 : D = j := by omega
              subst e6
              refine lv_bipush (v := nI 10) hx hb dX1_answerTo_119 (by decide) ?_
              refine lv_iload_n hx hb dX1_answerTo_121 rfl (lv_at hl 3 rfl) ?_
              refine n_mul hx hb dX1_answerTo_122 ?_
              refine lv_iload hx hb dX1_answerTo_123 (lv_at hl 4 rfl) ?_
              refine n_add hx hb dX1_answerTo_125 ?_
              refine lv_iload_n hx hb dX1_answerTo_126 rfl (lv_at hl 3 rfl) ?_
              refine n_sub hx hb (by omega) dX1_answerTo_127 ?_
              exact ret _ _ _ _ _ _ _ dX1_answerTo_128 (rfl) I (⟨by rw [hF]; rfl, rfl, rfl⟩)
            · refine lv_aload_n hx hb dX1_answerTo_68 rfl (lv_at hl 0 rfl) ?_
              refine gX_4 C I dX1_answerTo_69 ?_
              refine lv_iconst (v := nI 3) hx hb dX1_answerTo_72 (by decide) ?_
              refine lv_iload_n hx hb dX1_answerTo_73 rfl (lv_at hl 1 rfl) ?_
              refine n_mul hx hb dX1_answerTo_74 ?_
              refine lv_iload hx hb dX1_answerTo_75 (lv_at hl 5 rfl) ?_
              refine n_add hx hb dX1_answerTo_77 ?_
              refine ldX_4 C I ((3 * g) + j) (rfl) (by omega) (v := nI (cbTimes L D g j)) (gm.2.2.2.2.2 g j hg c65) dX1_answerTo_78 ?_
              refine lv_istore (lv' := [(6, .int (nI (cbTimes L D g j))), (0, .ref h), (1, .int (nI g)), (2, .int (nI q)), (3, .int (nI (cbSame L D g q))), (4, .int (nI (cbSum F j))), (5, .int (nI j))]) hx hb dX1_answerTo_79 hl (by decide) rfl (fun ls hl => ?_)
              refine lv_aload_n hx hb dX1_answerTo_81 rfl (lv_at hl 1 rfl) ?_
              refine gX_4 C I dX1_answerTo_82 ?_
              refine lv_iconst (v := nI 3) hx hb dX1_answerTo_85 (by decide) ?_
              refine lv_iload_n hx hb dX1_answerTo_86 rfl (lv_at hl 3 rfl) ?_
              refine n_mul hx hb dX1_answerTo_87 ?_
              refine lv_iload hx hb dX1_answerTo_88 (lv_at hl 6 rfl) ?_
              refine n_add hx hb dX1_answerTo_90 ?_
              refine ldX_4 C I ((3 * q) + j) (rfl) (by omega) (v := nI (cbTimes L D q j)) (gm.2.2.2.2.2 q j hq c65) dX1_answerTo_91 ?_
              refine lv_istore (lv' := [(7, .int (nI (cbTimes L D q j))), (6, .int (nI (cbTimes L D g j))), (0, .ref h), (1, .int (nI g)), (2, .int (nI q)), (3, .int (nI (cbSame L D g q))), (4, .int (nI (cbSum F j))), (5, .int (nI j))]) hx hb dX1_answerTo_92 hl (by decide) rfl (fun ls hl => ?_)
              refine lv_iload hx hb dX1_answerTo_94 (lv_at hl 6 rfl) ?_
              refine lv_iload hx hb dX1_answerTo_96 (lv_at hl 1 rfl) ?_
              refine lv_iload hx hb dX1_answerTo_98 (lv_at hl 0 rfl) ?_
              have join110 : W p l ee (rmK 0) s m args below meth cd H locs 0 0 Q (F0 m 110 ls [.int (nI (cbMin (cbTimes L D g j) (cbTimes L D q j))), .int (nI (cbSum F j))]) := by
                refine n_add hx hb dX1_answerTo_110 ?_
                refine w_top (v := nI (cbSum F (j + 1))) (by rw [hF]; rfl) ?_
                refine lv_istore (lv' := [(4, .int (nI (cbSum F (j + 1)))), (7, .int (nI (cbTimes L D q j))), (6, .int (nI (cbTimes L D g j))), (0, .ref h), (1, .int (nI g)), (2, .int (nI q)), (3, .int (nI (cbSame L D g q))), (5, .int (nI j))]) hx hb dX1_answerTo_111 hl (by decide) rfl (fun ls hl => ?_)
                refine lv_iinc (v := nI (j + 1)) (lv' := [(5, .int (nI (j + 1))), (4, .int (nI (cbSum F (j + 1)))), (7, .int (nI (cbTimes L D q j))), (6, .int (nI (cbTimes L D g j))), (0, .ref h), (1, .int (nI g)), (2, .int (nI q)), (3, .int (nI (cbSame L D g q)))]) hx hb dX1_answerTo_113 hl (k := 7) rfl (nI_1 _) (by decide) rfl (fun ls hl => ?_)
                refine lv_goto (tgt := 59) hx hb dX1_answerTo_116 (by decide) ?_
                exact ih (j + 1) _ _ _ (by omega) (by omega) I (lv_sub hl [4, 5, 6, 7, 1, 0] rfl)
              refine n_icge (tgt := 108) hx hb (Nat.lt_of_le_of_lt (cbCnt_le _ _) (by omega)) (Nat.lt_of_le_of_lt (cbCnt_le _ _) (by omega)) dX1_answerTo_100 (by decide) (fun c100 => ?_) (fun c100 => ?_)
              · refine lv_iload hx hb dX1_answerTo_108 (lv_at hl 0 rfl) ?_
                refine w_top (v := nI (cbMin (cbTimes L D g j) (cbTimes L D q j))) (by unfold cbMin; rw [if_pos c100]) ?_
                exact join110
              · refine lv_iload hx hb dX1_answerTo_103 (lv_at hl 1 rfl) ?_
                refine lv_goto (tgt := 110) hx hb dX1_answerTo_105 (by decide) ?_
                refine w_top (v := nI (cbMin (cbTimes L D g j) (cbTimes L D q j))) (by unfold cbMin; rw [if_neg (Nat.not_le.mpr c100)]) ?_
                exact join110
        exact loop59 (D + 1) 0 _ _ _ (by omega) (by omega) I (lv_sub hl [2, 3, 4, 5, 1, 0] rfl)
      · refine lv_aload_n hx hb dX1_answerTo_14 rfl (lv_at hl 0 rfl) ?_
        refine gX_3 C I dX1_answerTo_15 ?_
        refine lv_iconst (v := nI 4) hx hb dX1_answerTo_18 (by decide) ?_
        refine lv_iload_n hx hb dX1_answerTo_19 rfl (lv_at hl 1 rfl) ?_
        refine n_mul hx hb dX1_answerTo_20 ?_
        refine lv_iload hx hb dX1_answerTo_21 (lv_at hl 4 rfl) ?_
        refine n_add hx hb dX1_answerTo_23 ?_
        refine ldX_3 C I ((4 * g) + i) (rfl) (by omega) (v := nI (cbD D g (L - 1 - i))) (gm.2.2.2.2.1 g i hg c11) dX1_answerTo_24 ?_
        refine lv_aload_n hx hb dX1_answerTo_25 rfl (lv_at hl 0 rfl) ?_
        refine gX_3 C I dX1_answerTo_26 ?_
        refine lv_iconst (v := nI 4) hx hb dX1_answerTo_29 (by decide) ?_
        refine lv_iload_n hx hb dX1_answerTo_30 rfl (lv_at hl 2 rfl) ?_
        refine n_mul hx hb dX1_answerTo_31 ?_
        refine lv_iload hx hb dX1_answerTo_32 (lv_at hl 4 rfl) ?_
        refine n_add hx hb dX1_answerTo_34 ?_
        refine ldX_3 C I ((4 * q) + i) (rfl) (by omega) (v := nI (cbD D q (L - 1 - i))) (gm.2.2.2.2.1 q i hq c11) dX1_answerTo_35 ?_
        have join46 : W p l ee (rmK 0) s m args below meth cd H locs 0 0 Q (F0 m 46 ls [.int (nI (cbCnt P (i + 1)))]) := by
          refine lv_istore_n (lv' := [(3, .int (nI (cbCnt P (i + 1)))), (0, .ref h), (1, .int (nI g)), (2, .int (nI q)), (4, .int (nI i))]) hx hb dX1_answerTo_46 rfl hl (by decide) rfl (fun ls hl => ?_)
          refine lv_iinc (v := nI (i + 1)) (lv' := [(4, .int (nI (i + 1))), (3, .int (nI (cbCnt P (i + 1)))), (0, .ref h), (1, .int (nI g)), (2, .int (nI q))]) hx hb dX1_answerTo_47 hl (k := 4) rfl (nI_1 _) (by decide) rfl (fun ls hl => ?_)
          refine lv_goto (tgt := 5) hx hb dX1_answerTo_50 (by decide) ?_
          exact ih (i + 1) _ _ _ (by omega) (by omega) I (lv_sub hl [2, 3, 4, 1, 0] rfl)
        refine n_icne (tgt := 45) hx hb (Nat.lt_trans (cbD_lt hD1 _ _) (by omega)) (Nat.lt_trans (cbD_lt hD1 _ _) (by omega)) dX1_answerTo_36 (by decide) (fun c36 => ?_) (fun c36 => ?_)
        · refine lv_iload_n hx hb dX1_answerTo_45 rfl (lv_at hl 3 rfl) ?_
          refine w_top (v := nI (cbCnt P (i + 1))) (by rw [cbCnt_f (by rw [hP]; exact decide_eq_false c36)]) ?_
          exact join46
        · refine lv_iload_n hx hb dX1_answerTo_39 rfl (lv_at hl 3 rfl) ?_
          refine lv_iconst (v := nI 1) hx hb dX1_answerTo_40 (by decide) ?_
          refine n_add hx hb dX1_answerTo_41 ?_
          refine lv_goto (tgt := 46) hx hb dX1_answerTo_42 (by decide) ?_
          refine w_top (v := nI (cbCnt P (i + 1))) (by rw [cbCnt_t (by rw [hP]; exact decide_eq_true c36)]) ?_
          exact join46
  exact loop5 (L + 1) 0 _ _ _ (by omega) (by omega) I (lv_sub hl [2, 3, 4, 1, 0] rfl)
set_option maxHeartbeats 4000000 in
set_option maxRecDepth 100000 in
theorem metX_countPossible (l : Launch) (DD : va_G) (dd : ClassId) (h : Nat) (a : Nat → Nat) (f : Nat → Int32) (r : Nat → Nat → Int32) {L D N c : Nat} {G B : Nat → Nat} (sx : stX L D N c G B f r) : mG l wX yX1_countPossible cX1_countPossible 3 .int (rmK 0) DD dd h a f r [] (fun v f' r' => v = nI (cbCnt (cbPos L D G B c) N) ∧ f' = f ∧ r' = r) := by
  refine mG_start (by decide) (Nat.le_of_ble_eq_true rfl) ?_
  intro p ee s m args below meth cd AA Q ls C I hl ret
  have hx := C.1
  have hb := C.2.1
  have hl : lv_has ls 3 [(0, .ref h)] := hl
  have gm := sx.1
  obtain ⟨hL1, hL4, hD1, hD3, hN1, hN81, hNe⟩ := gm.1
  have hc8 := sx.2.1
  have hf5 := sx.2.2.1
  have hGB := sx.2.2.2.1
  have hbad := sx.2.2.2.2
  refine lv_iconst (v := nI 0) hx hb dX1_countPossible_0 (by decide) ?_
  refine lv_istore_n (lv' := [(1, .int (nI 0)), (0, .ref h)]) hx hb dX1_countPossible_1 rfl hl (by decide) rfl (fun ls hl => ?_)
  refine lv_iconst (v := nI 0) hx hb dX1_countPossible_2 (by decide) ?_
  refine lv_istore_n (lv' := [(2, .int (nI 0)), (1, .int (nI 0)), (0, .ref h)]) hx hb dX1_countPossible_3 rfl hl (by decide) rfl (fun ls hl => ?_)
  have loop4 : ∀ (n : Nat) (i : Nat) (H : Heap) (locs : List Loc) (ls : Array Slot), (N < i + n) → (i ≤ N) → iG wX DD dd AA s.heap h a f r H locs → lv_has ls 3 [(0, .ref h), (1, .int (nI (cbCnt (cbPos L D G B c) i))), (2, .int (nI i))] → W p l ee (rmK 0) s m args below meth cd H locs 0 0 Q (F0 m 4 ls []) := by
    intro n
    induction n with
    | zero =>
      intros; exfalso; omega
    | succ n ih =>
      intro i H locs ls h1 h2 I hl
      refine lv_iload_n hx hb dX1_countPossible_4 rfl (lv_at hl 2 rfl) ?_
      refine lv_aload_n hx hb dX1_countPossible_5 rfl (lv_at hl 0 rfl) ?_
      refine gX_2 C I (v := nI (N)) (gm.2.2.2.1) dX1_countPossible_6 ?_
      refine n_icge (tgt := 35) hx hb (by omega) (by omega) dX1_countPossible_9 (by decide) (fun c9 => ?_) (fun c9 => ?_)
      · have e5 : N = i := by omega
        subst e5
        refine lv_iload_n hx hb dX1_countPossible_35 rfl (lv_at hl 1 rfl) ?_
        exact ret _ _ _ _ _ _ _ dX1_countPossible_36 (rfl) I (⟨rfl, rfl, rfl⟩)
      · refine lv_aload_n hx hb dX1_countPossible_12 rfl (lv_at hl 0 rfl) ?_
        refine gX_8 C I dX1_countPossible_13 ?_
        refine lv_iload_n hx hb dX1_countPossible_16 rfl (lv_at hl 2 rfl) ?_
        refine ldX_8 C I (i) (rfl) (by omega) (v := nI (cbBad L D G B c i)) (hbad i c9) dX1_countPossible_17 ?_
        have join28 : W p l ee (rmK 0) s m args below meth cd H locs 0 0 Q (F0 m 28 ls [.int (nI (cbCnt (cbPos L D G B c) (i + 1)))]) := by
          refine lv_istore_n (lv' := [(1, .int (nI (cbCnt (cbPos L D G B c) (i + 1)))), (0, .ref h), (2, .int (nI i))]) hx hb dX1_countPossible_28 rfl hl (by decide) rfl (fun ls hl => ?_)
          refine lv_iinc (v := nI (i + 1)) (lv' := [(2, .int (nI (i + 1))), (1, .int (nI (cbCnt (cbPos L D G B c) (i + 1)))), (0, .ref h)]) hx hb dX1_countPossible_29 hl (k := 2) rfl (nI_1 _) (by decide) rfl (fun ls hl => ?_)
          refine lv_goto (tgt := 4) hx hb dX1_countPossible_32 (by decide) ?_
          exact ih (i + 1) _ _ _ (by omega) (by omega) I (lv_sub hl [2, 1, 0] rfl)
        refine n_ifne (tgt := 27) hx hb (Nat.lt_of_le_of_lt (cbBad_le _ _ _ _ _ _) (by omega)) dX1_countPossible_18 (by decide) (fun c18 => ?_) (fun c18 => ?_)
        · refine lv_iload_n hx hb dX1_countPossible_27 rfl (lv_at hl 1 rfl) ?_
          refine w_top (v := nI (cbCnt (cbPos L D G B c) (i + 1))) (by rw [cbCnt_f (decide_eq_false c18)]) ?_
          exact join28
        · refine lv_iload_n hx hb dX1_countPossible_21 rfl (lv_at hl 1 rfl) ?_
          refine lv_iconst (v := nI 1) hx hb dX1_countPossible_22 (by decide) ?_
          refine n_add hx hb dX1_countPossible_23 ?_
          refine lv_goto (tgt := 28) hx hb dX1_countPossible_24 (by decide) ?_
          refine w_top (v := nI (cbCnt (cbPos L D G B c) (i + 1))) (by rw [cbCnt_t (decide_eq_true c18)]) ?_
          exact join28
  exact loop4 (N + 1) 0 _ _ _ (by omega) (by omega) I (lv_sub hl [2, 1, 0] rfl)
set_option maxHeartbeats 4000000 in
set_option maxRecDepth 100000 in
theorem metX_weigh (l : Launch) (DD : va_G) (dd : ClassId) (h : Nat) (a : Nat → Nat) (f : Nat → Int32) (r : Nat → Nat → Int32) {L D N : Nat} (k gk bk : Nat) (b : Int32) (gm : geoX L D N f r) (hk : k < 8) (hgk : gk < N) (hbk : bk ≤ 44) (e6 : r 6 k = nI gk) (e7 : r 7 k = nI bk) : mGv l wX yX1_weigh cX1_weigh 5 (rmK 1) DD dd h a f r [.int (nI k), .int (b)] (fun f' r' => f' = f ∧ (∀ j, j ≠ 8 → r' j = r j) ∧ ∀ y, y < N → r' 8 y = if cbAns L D gk y = bk then r 8 y else r 8 y + b) := by
  refine mGv_start (by decide) (Nat.le_of_ble_eq_true rfl) ?_
  intro p ee s m args below meth cd AA Q ls C I hl ret
  have hx := C.1
  have hb := C.2.1
  have hl : lv_has ls 5 [(0, .ref h), (1, .int (nI k)), (2, .int (b))] := hl
  obtain ⟨hL1, hL4, hD1, hD3, hN1, hN81, hNe⟩ := gm.1
  refine lv_iconst (v := nI 0) hx hb dX1_weigh_0 (by decide) ?_
  refine lv_istore_n (lv' := [(3, .int (nI 0)), (0, .ref h), (1, .int (nI k)), (2, .int (b))]) hx hb dX1_weigh_1 rfl hl (by decide) rfl (fun ls hl => ?_)
  have loop2 : ∀ (n : Nat) (x : Nat) (rL : Nat → Nat → Int32) (H : Heap) (locs : List Loc) (ls : Array Slot), (N < x + n) → (x ≤ N) → (∀ j, j ≠ 8 → rL j = r j) → (∀ y, y < N → rL 8 y = if y < x then (if cbAns L D gk y = bk then r 8 y else r 8 y + b) else r 8 y) → iG wX DD dd AA s.heap h a f rL H locs → lv_has ls 5 [(0, .ref h), (1, .int (nI k)), (2, .int (b)), (3, .int (nI x))] → W p l ee (rmK 1) s m args below meth cd H locs 0 0 Q (F0 m 2 ls []) := by
    intro n
    induction n with
    | zero =>
      intros; exfalso; omega
    | succ n ih =>
      intro x rL H locs ls h1 h2 hr hy I hl
      have gmL : geoX L D N f rL := gm.keep (fun _ _ => rfl) (fun j hj => hr j (by omega))
      refine lv_iload_n hx hb dX1_weigh_2 rfl (lv_at hl 3 rfl) ?_
      refine lv_aload_n hx hb dX1_weigh_3 rfl (lv_at hl 0 rfl) ?_
      refine gX_2 C I (v := nI (N)) (gmL.2.2.2.1) dX1_weigh_4 ?_
      refine n_icge (tgt := 63) hx hb (by omega) (by omega) dX1_weigh_7 (by decide) (fun c7 => ?_) (fun c7 => ?_)
      · have e5 : N = x := by omega
        subst e5
        exact ret _ _ _ _ _ _ dX1_weigh_63 I (⟨rfl, hr, fun y hyN => by rw [hy y hyN, if_pos hyN]⟩)
      · refine lv_aload_n hx hb dX1_weigh_10 rfl (lv_at hl 0 rfl) ?_
        refine lv_aload_n hx hb dX1_weigh_11 rfl (lv_at hl 0 rfl) ?_
        refine gX_6 C I dX1_weigh_12 ?_
        refine lv_iload_n hx hb dX1_weigh_15 rfl (lv_at hl 1 rfl) ?_
        refine ldX_6 C I (k) (rfl) (by omega) (v := nI (gk)) (by rw [hr 6 (by decide)]; exact e6) dX1_weigh_16 ?_
        refine lv_iload_n hx hb dX1_weigh_17 rfl (lv_at hl 3 rfl) ?_
        refine mG_call (q := (RX1, TX1, 18)) (ci := 0) C I (metX_answerTo l DD dd h a f rL gk x gmL hgk c7) ⟨_, rfl⟩ rfl cwX_XanswerTo cdX_answerTo ⟨Nat.le_of_ble_eq_true rfl, Nat.le_of_ble_eq_true rfl⟩ ⟨rfl, rfl⟩ rfl hl.1 (Nat.le_of_ble_eq_true rfl) dX1_weigh_18 ⟨Nat.zero_le _, Nat.zero_le _⟩ rfl (fun v1 f1 r1 H locs hp1 I => ?_)
        obtain ⟨ev1, ef1, er1⟩ := hp1
        subst ev1
        rw [ef1, er1] at I
        refine lv_istore (lv' := [(4, .int (nI (cbAns L D gk x))), (0, .ref h), (1, .int (nI k)), (2, .int (b)), (3, .int (nI x))]) hx hb dX1_weigh_21 hl (by decide) rfl (fun ls hl => ?_)
        refine lv_aload_n hx hb dX1_weigh_23 rfl (lv_at hl 1 rfl) ?_
        refine gX_8 C I dX1_weigh_24 ?_
        refine lv_iload_n hx hb dX1_weigh_27 rfl (lv_at hl 4 rfl) ?_
        refine lv_iload hx hb dX1_weigh_28 (lv_at hl 0 rfl) ?_
        refine lv_aload_n hx hb dX1_weigh_30 rfl (lv_at hl 1 rfl) ?_
        refine gX_7 C I dX1_weigh_31 ?_
        refine lv_iload_n hx hb dX1_weigh_34 rfl (lv_at hl 2 rfl) ?_
        refine ldX_7 C I (k) (rfl) (by omega) (v := nI (bk)) (by rw [hr 7 (by decide)]; exact e7) dX1_weigh_35 ?_
        have join56 : W p l ee (rmK 1) s m args below meth cd H locs 0 0 Q (F0 m 56 ls [.int (if cbAns L D gk x = bk then r 8 x else r 8 x + b), .int (nI x), .ref (a 8)]) := by
          refine stX_8 C I (x) (rfl) (by omega) dX1_weigh_56 (fun H locs r2 er2 or2 I => ?_)
          refine lv_iinc (v := nI (x + 1)) (lv' := [(3, .int (nI (x + 1))), (4, .int (nI (cbAns L D gk x))), (0, .ref h), (1, .int (nI k)), (2, .int (b))]) hx hb dX1_weigh_57 hl (k := 4) rfl (nI_1 _) (by decide) rfl (fun ls hl => ?_)
          refine lv_goto (tgt := 2) hx hb dX1_weigh_60 (by decide) ?_
          refine ih (x + 1) _ _ _ _ (by omega) (by omega) (fun j hj => (or2 j hj).trans (hr j hj)) ?_ I (lv_sub hl [2, 3, 4, 0] rfl)
          intro y hyN
          rw [er2]
          by_cases hyx : y = x
          · subst hyx
            rw [pk_us, if_pos (show y < y + 1 by omega)]
          · rw [pk_un hyx, hy y hyN]
            by_cases hlt : y < x
            · rw [if_pos hlt, if_pos (show y < x + 1 by omega)]
            · rw [if_neg hlt, if_neg (show ¬ y < x + 1 by omega)]
        refine n_icne (tgt := 48) hx hb (Nat.lt_trans (cbAns_lt hD1 hL4 _ _) (by decide)) (by omega) dX1_weigh_36 (by decide) (fun c36 => ?_) (fun c36 => ?_)
        · refine lv_aload_n hx hb dX1_weigh_48 rfl (lv_at hl 1 rfl) ?_
          refine gX_8 C I dX1_weigh_49 ?_
          refine lv_iload_n hx hb dX1_weigh_52 rfl (lv_at hl 4 rfl) ?_
          refine ldX_8 C I (x) (rfl) (by omega) (v := (r 8 x)) (by rw [hy x c7, if_neg (by omega)]) dX1_weigh_53 ?_
          refine lv_iload_n hx hb dX1_weigh_54 rfl (lv_at hl 3 rfl) ?_
          refine lv_iadd hx hb dX1_weigh_55 ?_
          refine w_top (v := (if cbAns L D gk x = bk then r 8 x else r 8 x + b)) (by rw [if_neg c36]) ?_
          exact join56
        · refine lv_aload_n hx hb dX1_weigh_39 rfl (lv_at hl 1 rfl) ?_
          refine gX_8 C I dX1_weigh_40 ?_
          refine lv_iload_n hx hb dX1_weigh_43 rfl (lv_at hl 4 rfl) ?_
          refine ldX_8 C I (x) (rfl) (by omega) (v := (r 8 x)) (by rw [hy x c7, if_neg (by omega)]) dX1_weigh_44 ?_
          refine lv_goto (tgt := 56) hx hb dX1_weigh_45 (by decide) ?_
          refine w_top (v := (if cbAns L D gk x = bk then r 8 x else r 8 x + b)) (by rw [if_pos c36]) ?_
          exact join56
  refine loop2 (N + 1) 0 _ _ _ _ (by omega) (by omega) (fun _ _ => rfl) ?_ I (lv_sub hl [1, 2, 3, 0] rfl)
  intro y _
  rw [if_neg (by omega)]
set_option maxHeartbeats 4000000 in
set_option maxRecDepth 100000 in
theorem metX_answer (l : Launch) (DD : va_G) (dd : ClassId) (h : Nat) (a : Nat → Nat) (f : Nat → Int32) (r : Nat → Nat → Int32) {L D N : Nat} (x y : Int32) (gm : geoX L D N f r) : mG l wX yX1_answer cX1_answer 3 .int (rmK 1) DD dd h a f r [.int (x), .int (y)] (fun v f' r' => (v = -1 ∧ ¬ (cbIs N x ∧ cbIs N y) ∨ ∃ i j, i < N ∧ j < N ∧ x = nI i ∧ y = nI j ∧ v = nI (cbAns L D i j)) ∧ f' = f ∧ r' = r) := by
  refine mG_start (by decide) (Nat.le_of_ble_eq_true rfl) ?_
  intro p ee s m args below meth cd AA Q ls C I hl ret
  have hx := C.1
  have hb := C.2.1
  have hl : lv_has ls 3 [(0, .ref h), (1, .int (x)), (2, .int (y))] := hl
  obtain ⟨hL1, hL4, hD1, hD3, hN1, hN81, hNe⟩ := gm.1
  refine lv_aload_n hx hb dX1_answer_0 rfl (lv_at hl 0 rfl) ?_
  refine lv_iload_n hx hb dX1_answer_1 rfl (lv_at hl 1 rfl) ?_
  refine mG_call (q := (RX1, TX1, 18)) (ci := 0) C I (metX_badCode l DD dd h a f r x gm) ⟨_, rfl⟩ rfl cwX_XbadCode cdX_badCode ⟨Nat.le_of_ble_eq_true rfl, Nat.le_of_ble_eq_true rfl⟩ ⟨rfl, rfl⟩ rfl hl.1 (Nat.le_of_ble_eq_true rfl) dX1_answer_2 ⟨Nat.zero_le _, Nat.zero_le _⟩ rfl (fun v1 f1 r1 H locs hp1 I => ?_)
  obtain ⟨hqa, ef1, er1⟩ := hp1
  rw [ef1, er1] at I
  refine lv_if_ne (tgt := 16) hx hb dX1_answer_5 (by decide) (fun c5 => ?_) (fun c5 => ?_)
  · have hq : ¬ (cbIs N x ∧ cbIs N y) := by
      rcases hqa with ⟨-, q⟩ | ⟨q, -⟩
      · exact fun z => q z.1
      · exact absurd q c5
    refine lv_iconst (v := -1) hx hb dX1_answer_16 (by decide) ?_
    refine lv_goto (tgt := 26) hx hb dX1_answer_17 (by decide) ?_
    exact ret _ _ _ _ _ _ _ dX1_answer_26 (rfl) I (by first | exact ⟨Or.inl ⟨rfl, hq⟩, rfl, rfl⟩ | exact ⟨Or.inr ⟨i, j, hi, hj, rfl, rfl, rfl⟩, rfl, rfl⟩)
  · obtain ⟨i, hi, rfl⟩ : cbIs N x := by
      rcases hqa with ⟨q, -⟩ | ⟨-, q⟩
      · rw [q] at c5; exact absurd c5 (by decide)
      · exact q
    refine lv_aload_n hx hb dX1_answer_8 rfl (lv_at hl 0 rfl) ?_
    refine lv_iload_n hx hb dX1_answer_9 rfl (lv_at hl 2 rfl) ?_
    refine mG_call (q := (RX1, TX1, 18)) (ci := 0) C I (metX_badCode l DD dd h a f r y gm) ⟨_, rfl⟩ rfl cwX_XbadCode cdX_badCode ⟨Nat.le_of_ble_eq_true rfl, Nat.le_of_ble_eq_true rfl⟩ ⟨rfl, rfl⟩ rfl hl.1 (Nat.le_of_ble_eq_true rfl) dX1_answer_10 ⟨Nat.zero_le _, Nat.zero_le _⟩ rfl (fun v2 f2 r2 H locs hp2 I => ?_)
    obtain ⟨hqb, ef2, er2⟩ := hp2
    rw [ef2, er2] at I
    refine lv_if_eq (tgt := 20) hx hb dX1_answer_13 (by decide) (fun c13 => ?_) (fun c13 => ?_)
    · obtain ⟨j, hj, rfl⟩ : cbIs N y := by
        rcases hqb with ⟨q, -⟩ | ⟨-, q⟩
        · rw [q] at c13; exact absurd c13 (by decide)
        · exact q
      refine lv_aload_n hx hb dX1_answer_20 rfl (lv_at hl 0 rfl) ?_
      refine lv_iload_n hx hb dX1_answer_21 rfl (lv_at hl 1 rfl) ?_
      refine lv_iload_n hx hb dX1_answer_22 rfl (lv_at hl 2 rfl) ?_
      refine mG_call (q := (RX1, TX1, 18)) (ci := 0) C I (metX_answerTo l DD dd h a f r i j gm hi hj) ⟨_, rfl⟩ rfl cwX_XanswerTo cdX_answerTo ⟨Nat.le_of_ble_eq_true rfl, Nat.le_of_ble_eq_true rfl⟩ ⟨rfl, rfl⟩ rfl hl.1 (Nat.le_of_ble_eq_true rfl) dX1_answer_23 ⟨Nat.zero_le _, Nat.zero_le _⟩ rfl (fun v3 f3 r3 H locs hp3 I => ?_)
      obtain ⟨ev3, ef3, er3⟩ := hp3
      subst ev3
      rw [ef3, er3] at I
      exact ret _ _ _ _ _ _ _ dX1_answer_26 (rfl) I (by first | exact ⟨Or.inl ⟨rfl, hq⟩, rfl, rfl⟩ | exact ⟨Or.inr ⟨i, j, hi, hj, rfl, rfl, rfl⟩, rfl, rfl⟩)
    · have hq : ¬ (cbIs N (nI i) ∧ cbIs N y) := by
        rcases hqb with ⟨-, q⟩ | ⟨q, -⟩
        · exact fun z => q z.2
        · exact absurd q c13
      refine lv_iconst (v := -1) hx hb dX1_answer_16 (by decide) ?_
      refine lv_goto (tgt := 26) hx hb dX1_answer_17 (by decide) ?_
      exact ret _ _ _ _ _ _ _ dX1_answer_26 (rfl) I (by first | exact ⟨Or.inl ⟨rfl, hq⟩, rfl, rfl⟩ | exact ⟨Or.inr ⟨i, j, hi, hj, rfl, rfl, rfl⟩, rfl, rfl⟩)
set_option maxHeartbeats 4000000 in
set_option maxRecDepth 100000 in
theorem metX_possible (l : Launch) (DD : va_G) (dd : ClassId) (h : Nat) (a : Nat → Nat) (f : Nat → Int32) (r : Nat → Nat → Int32) {L D N c : Nat} {G B : Nat → Nat} (sx : stX L D N c G B f r) : mG l wX yX1_possible cX1_possible 1 .int (rmK 1) DD dd h a f r [] (fun v f' r' => v = nI (cbCnt (cbPos L D G B c) N) ∧ f' = f ∧ r' = r) := by
  refine mG_start (by decide) (Nat.le_of_ble_eq_true rfl) ?_
  intro p ee s m args below meth cd AA Q ls C I hl ret
  have hx := C.1
  have hb := C.2.1
  have hl : lv_has ls 1 [(0, .ref h)] := hl
  refine lv_aload_n hx hb dX1_possible_0 rfl (lv_at hl 0 rfl) ?_
  refine mG_call (q := (RX1, TX1, 18)) (ci := 0) C I (metX_countPossible l DD dd h a f r sx) ⟨_, rfl⟩ rfl cwX_XcountPossible cdX_countPossible ⟨Nat.le_of_ble_eq_true rfl, Nat.le_of_ble_eq_true rfl⟩ ⟨rfl, rfl⟩ rfl hl.1 (Nat.le_of_ble_eq_true rfl) dX1_possible_1 ⟨Nat.zero_le _, Nat.zero_le _⟩ rfl (fun v1 f1 r1 H locs hp1 I => ?_)
  obtain ⟨ev1, ef1, er1⟩ := hp1
  subst ev1
  rw [ef1, er1] at I
  exact ret _ _ _ _ _ _ _ dX1_possible_4 (rfl) I (⟨rfl, rfl, rfl⟩)
set_option maxHeartbeats 4000000 in
set_option maxRecDepth 100000 in
theorem metX_tell (l : Launch) (DD : va_G) (dd : ClassId) (h : Nat) (a : Nat → Nat) (f : Nat → Int32) (r : Nat → Nat → Int32) {L D N c : Nat} {G B : Nat → Nat} (x b w : Int32) (sx : stX L D N c G B f r) : mG l wX yX1_tell cX1_tell 4 .int (rmK 2) DD dd h a f r [.int (x), .int (b), .int (w)] (fun v f' r' => (¬ okT N x b w ∧ v = -1 ∧ f' = f ∧ r' = r) ∨ (okT N x b w ∧ c = 8 ∧ v = -2 ∧ f' = f ∧ r' = r) ∨ ∃ i b' w', i < N ∧ b' ≤ 4 ∧ w' ≤ 4 ∧ x = nI i ∧ b = nI b' ∧ w = nI w' ∧ c < 8 ∧ v = nI (cbCnt (cbPos L D (upN G c i) (upN B c (10 * b' + w')) (c + 1)) N) ∧ stX L D N (c + 1) (upN G c i) (upN B c (10 * b' + w')) f' r') := by
  refine mG_start (by decide) (Nat.le_of_ble_eq_true rfl) ?_
  intro p ee s m args below meth cd AA Q ls C I hl ret
  have hx := C.1
  have hb := C.2.1
  have hl : lv_has ls 4 [(0, .ref h), (1, .int (x)), (2, .int (b)), (3, .int (w))] := hl
  have gm := sx.1
  obtain ⟨hL1, hL4, hD1, hD3, hN1, hN81, hNe⟩ := gm.1
  have hc8 := sx.2.1
  have hf5 := sx.2.2.1
  have hGB := sx.2.2.2.1
  have hbad := sx.2.2.2.2
  refine lv_aload_n hx hb dX1_tell_0 rfl (lv_at hl 0 rfl) ?_
  refine lv_iload_n hx hb dX1_tell_1 rfl (lv_at hl 1 rfl) ?_
  refine mG_call (q := (RX1, TX1, 18)) (ci := 0) C I (metX_badCode l DD dd h a f r x gm) ⟨_, rfl⟩ rfl cwX_XbadCode cdX_badCode ⟨Nat.le_of_ble_eq_true rfl, Nat.le_of_ble_eq_true rfl⟩ ⟨rfl, rfl⟩ rfl hl.1 (Nat.le_of_ble_eq_true rfl) dX1_tell_2 ⟨Nat.zero_le _, Nat.zero_le _⟩ rfl (fun v1 f1 r1 H locs hp1 I => ?_)
  obtain ⟨hqa, ef1, er1⟩ := hp1
  rw [ef1, er1] at I
  refine lv_if_ne (tgt := 26) hx hb dX1_tell_5 (by decide) (fun c5 => ?_) (fun c5 => ?_)
  · have hq : ¬ okT N x b w := by
      rcases hqa with ⟨-, q⟩ | ⟨q, -⟩
      · exact fun z => q z.1
      · exact absurd q c5
    refine lv_iconst (v := -1) hx hb dX1_tell_26 (by decide) ?_
    exact ret _ _ _ _ _ _ _ dX1_tell_27 (rfl) I (Or.inl ⟨hq, rfl, rfl, rfl⟩)
  · have hx1 : cbIs N x := by
      rcases hqa with ⟨q, -⟩ | ⟨-, q⟩
      · rw [q] at c5; exact absurd c5 (by decide)
      · exact q
    refine lv_iload_n hx hb dX1_tell_8 rfl (lv_at hl 2 rfl) ?_
    refine lv_if_lt (tgt := 26) hx hb dX1_tell_9 (by decide) (fun c9 => ?_) (fun c9 => ?_)
    · have hq : ¬ okT N x b w := fun z => cbIs_neg (by decide) c9 z.2.1
      refine lv_iconst (v := -1) hx hb dX1_tell_26 (by decide) ?_
      exact ret _ _ _ _ _ _ _ dX1_tell_27 (rfl) I (Or.inl ⟨hq, rfl, rfl, rfl⟩)
    · refine lv_iload_n hx hb dX1_tell_12 rfl (lv_at hl 2 rfl) ?_
      refine lv_iconst (v := nI 4) hx hb dX1_tell_13 (by decide) ?_
      refine lv_icmp_gt (tgt := 26) hx hb dX1_tell_14 (by decide) (fun c14 => ?_) (fun c14 => ?_)
      · have hq : ¬ okT N x b w := fun z => cbIs5_big (Int32.not_le.mpr c14) z.2.1
        refine lv_iconst (v := -1) hx hb dX1_tell_26 (by decide) ?_
        exact ret _ _ _ _ _ _ _ dX1_tell_27 (rfl) I (Or.inl ⟨hq, rfl, rfl, rfl⟩)
      · have hb1 : cbIs 5 b := cbIs5_of c9 (Int32.not_lt.mp c14)
        refine lv_iload_n hx hb dX1_tell_17 rfl (lv_at hl 3 rfl) ?_
        refine lv_if_lt (tgt := 26) hx hb dX1_tell_18 (by decide) (fun c18 => ?_) (fun c18 => ?_)
        · have hq : ¬ okT N x b w := fun z => cbIs_neg (by decide) c18 z.2.2
          refine lv_iconst (v := -1) hx hb dX1_tell_26 (by decide) ?_
          exact ret _ _ _ _ _ _ _ dX1_tell_27 (rfl) I (Or.inl ⟨hq, rfl, rfl, rfl⟩)
        · refine lv_iload_n hx hb dX1_tell_21 rfl (lv_at hl 3 rfl) ?_
          refine lv_iconst (v := nI 4) hx hb dX1_tell_22 (by decide) ?_
          refine lv_icmp_le (tgt := 28) hx hb dX1_tell_23 (by decide) (fun c23 => ?_) (fun c23 => ?_)
          · have hok : okT N x b w := ⟨hx1, hb1, cbIs5_of c18 c23⟩
            refine lv_aload_n hx hb dX1_tell_28 rfl (lv_at hl 0 rfl) ?_
            refine gX_5 C I (v := nI (c)) (hf5) dX1_tell_29 ?_
            refine lv_bipush (v := nI 8) hx hb dX1_tell_32 (by decide) ?_
            refine n_icne (tgt := 40) hx hb (by omega) (by omega) dX1_tell_34 (by decide) (fun c34 => ?_) (fun c34 => ?_)
            · obtain ⟨⟨i, hi, rfl⟩, ⟨b', hb', rfl⟩, ⟨w', hw', rfl⟩⟩ := hok
              refine lv_aload_n hx hb dX1_tell_40 rfl (lv_at hl 0 rfl) ?_
              refine gX_6 C I dX1_tell_41 ?_
              refine lv_aload_n hx hb dX1_tell_44 rfl (lv_at hl 0 rfl) ?_
              refine gX_5 C I (v := nI (c)) (hf5) dX1_tell_45 ?_
              refine lv_iload_n hx hb dX1_tell_48 rfl (lv_at hl 1 rfl) ?_
              refine stX_6 C I (c) (rfl) (by omega) dX1_tell_49 (fun H locs r2 er2 or2 I => ?_)
              refine lv_aload_n hx hb dX1_tell_50 rfl (lv_at hl 0 rfl) ?_
              refine gX_7 C I dX1_tell_51 ?_
              refine lv_aload_n hx hb dX1_tell_54 rfl (lv_at hl 0 rfl) ?_
              refine gX_5 C I (v := nI (c)) (hf5) dX1_tell_55 ?_
              refine lv_bipush (v := nI 10) hx hb dX1_tell_58 (by decide) ?_
              refine lv_iload_n hx hb dX1_tell_60 rfl (lv_at hl 2 rfl) ?_
              refine n_mul hx hb dX1_tell_61 ?_
              refine lv_iload_n hx hb dX1_tell_62 rfl (lv_at hl 3 rfl) ?_
              refine n_add hx hb dX1_tell_63 ?_
              refine stX_7 C I (c) (rfl) (by omega) dX1_tell_64 (fun H locs r3 er3 or3 I => ?_)
              refine lv_aload_n hx hb dX1_tell_65 rfl (lv_at hl 0 rfl) ?_
              refine lv_aload_n hx hb dX1_tell_66 rfl (lv_at hl 0 rfl) ?_
              refine gX_5 C I (v := nI (c)) (hf5) dX1_tell_67 ?_
              refine lv_iconst (v := nI 1) hx hb dX1_tell_70 (by decide) ?_
              have gm2 : geoX L D N f r3 := gm.keep (fun _ _ => rfl) (fun j hj => (or3 j (by omega)).trans (or2 j (by omega)))
              refine mGv_call (q := (RX1, TX1, 18)) (ci := 0) C I (metX_weigh l DD dd h a f r3 c i (10 * b' + w') (nI 1) gm2 (by omega) hi (by omega) (by rw [or3 6 (by decide), er2, pk_us]) (by rw [er3, pk_us])) ⟨_, rfl⟩ rfl cwX_Xweigh cdX_weigh ⟨Nat.le_of_ble_eq_true rfl, Nat.le_of_ble_eq_true rfl⟩ ⟨rfl, rfl⟩ rfl hl.1 (Nat.le_of_ble_eq_true rfl) dX1_tell_71 ⟨Nat.zero_le _, Nat.zero_le _⟩ rfl (fun f4 r4 H locs hp4 I => ?_)
              obtain ⟨ef4, o4, q4⟩ := hp4
              rw [ef4] at I
              refine lv_aload_n hx hb dX1_tell_74 rfl (lv_at hl 0 rfl) ?_
              refine lv_dup hx hb dX1_tell_75 rfl ?_
              refine gX_5 C I (v := nI (c)) (hf5) dX1_tell_76 ?_
              refine lv_iconst (v := nI 1) hx hb dX1_tell_79 (by decide) ?_
              refine n_add hx hb dX1_tell_80 ?_
              refine pX_5 C I dX1_tell_81 (fun H locs f5 ef5 of5 I => ?_)
              refine lv_aload_n hx hb dX1_tell_84 rfl (lv_at hl 0 rfl) ?_
              have sx5 : stX L D N (c + 1) (upN G c i) (upN B c (10 * b' + w')) f5 r4 := stX_tell sx (by omega) hi (by omega) ef5 of5 (fun k hk => by rw [o4 k (by omega), or3 k (by omega), or2 k (by omega)]) (by rw [o4 6 (by decide), or3 6 (by decide), er2]) (by rw [o4 7 (by decide), er3, or2 7 (by decide)]) (fun y hy => by rw [q4 y hy, or3 8 (by decide), or2 8 (by decide)])
              refine mG_call (q := (RX1, TX1, 18)) (ci := 0) C I (metX_countPossible l DD dd h a f5 r4 sx5) ⟨_, rfl⟩ rfl cwX_XcountPossible cdX_countPossible ⟨Nat.le_of_ble_eq_true rfl, Nat.le_of_ble_eq_true rfl⟩ ⟨rfl, rfl⟩ rfl hl.1 (Nat.le_of_ble_eq_true rfl) dX1_tell_85 ⟨Nat.zero_le _, Nat.zero_le _⟩ rfl (fun v6 f6 r6 H locs hp6 I => ?_)
              obtain ⟨ev6, ef6, er6⟩ := hp6
              subst ev6
              rw [ef6, er6] at I
              exact ret _ _ _ _ _ _ _ dX1_tell_88 (rfl) I (Or.inr (Or.inr ⟨i, b', w', hi, by omega, by omega, rfl, rfl, rfl, by omega, rfl, sx5⟩))
            · refine lv_bipush (v := -2) hx hb dX1_tell_37 (by decide) ?_
              exact ret _ _ _ _ _ _ _ dX1_tell_39 (rfl) I (Or.inr (Or.inl ⟨hok, c34, rfl, rfl, rfl⟩))
          · have hq : ¬ okT N x b w := fun z => cbIs5_big c23 z.2.2
            refine lv_iconst (v := -1) hx hb dX1_tell_26 (by decide) ?_
            exact ret _ _ _ _ _ _ _ dX1_tell_27 (rfl) I (Or.inl ⟨hq, rfl, rfl, rfl⟩)
set_option maxHeartbeats 4000000 in
set_option maxRecDepth 100000 in
theorem metX_forget (l : Launch) (DD : va_G) (dd : ClassId) (h : Nat) (a : Nat → Nat) (f : Nat → Int32) (r : Nat → Nat → Int32) {L D N c : Nat} {G B : Nat → Nat} (sx : stX L D N c G B f r) : mG l wX yX1_forget cX1_forget 1 .int (rmK 2) DD dd h a f r [] (fun v f' r' => (c = 0 ∧ v = -3 ∧ f' = f ∧ r' = r) ∨ (0 < c ∧ v = nI (cbCnt (cbPos L D G B (c - 1)) N) ∧ stX L D N (c - 1) G B f' r')) := by
  refine mG_start (by decide) (Nat.le_of_ble_eq_true rfl) ?_
  intro p ee s m args below meth cd AA Q ls C I hl ret
  have hx := C.1
  have hb := C.2.1
  have hl : lv_has ls 1 [(0, .ref h)] := hl
  have gm := sx.1
  obtain ⟨hL1, hL4, hD1, hD3, hN1, hN81, hNe⟩ := gm.1
  have hc8 := sx.2.1
  have hf5 := sx.2.2.1
  have hGB := sx.2.2.2.1
  have hbad := sx.2.2.2.2
  refine lv_aload_n hx hb dX1_forget_0 rfl (lv_at hl 0 rfl) ?_
  refine gX_5 C I (v := nI (c)) (hf5) dX1_forget_1 ?_
  refine n_ifne (tgt := 10) hx hb (by omega) dX1_forget_4 (by decide) (fun c4 => ?_) (fun c4 => ?_)
  · refine lv_aload_n hx hb dX1_forget_10 rfl (lv_at hl 0 rfl) ?_
    refine lv_dup hx hb dX1_forget_11 rfl ?_
    refine gX_5 C I (v := nI (c)) (hf5) dX1_forget_12 ?_
    refine lv_iconst (v := nI 1) hx hb dX1_forget_15 (by decide) ?_
    refine n_sub hx hb (by omega) dX1_forget_16 ?_
    refine pX_5 C I dX1_forget_17 (fun H locs f1 ef1 of1 I => ?_)
    refine lv_aload_n hx hb dX1_forget_20 rfl (lv_at hl 0 rfl) ?_
    refine lv_aload_n hx hb dX1_forget_21 rfl (lv_at hl 0 rfl) ?_
    refine gX_5 C I (v := nI (c - 1)) (ef1) dX1_forget_22 ?_
    refine lv_iconst (v := -1) hx hb dX1_forget_25 (by decide) ?_
    have gm2 : geoX L D N f1 r := gm.keep (fun k hk => of1 k (by omega)) (fun _ _ => rfl)
    have g7 := hGB (c - 1) (by omega)
    refine mGv_call (q := (RX1, TX1, 18)) (ci := 0) C I (metX_weigh l DD dd h a f1 r (c - 1) (G (c - 1)) (B (c - 1)) (-1) gm2 (by omega) g7.1 g7.2.2.1 g7.2.1 g7.2.2.2) ⟨_, rfl⟩ rfl cwX_Xweigh cdX_weigh ⟨Nat.le_of_ble_eq_true rfl, Nat.le_of_ble_eq_true rfl⟩ ⟨rfl, rfl⟩ rfl hl.1 (Nat.le_of_ble_eq_true rfl) dX1_forget_26 ⟨Nat.zero_le _, Nat.zero_le _⟩ rfl (fun f2 r2 H locs hp2 I => ?_)
    obtain ⟨ef2, o2, q2⟩ := hp2
    rw [ef2] at I
    refine lv_aload_n hx hb dX1_forget_29 rfl (lv_at hl 0 rfl) ?_
    have sx5 : stX L D N (c - 1) G B f1 r2 := stX_forget sx (by omega) ef1 of1 o2 q2
    refine mG_call (q := (RX1, TX1, 18)) (ci := 0) C I (metX_countPossible l DD dd h a f1 r2 sx5) ⟨_, rfl⟩ rfl cwX_XcountPossible cdX_countPossible ⟨Nat.le_of_ble_eq_true rfl, Nat.le_of_ble_eq_true rfl⟩ ⟨rfl, rfl⟩ rfl hl.1 (Nat.le_of_ble_eq_true rfl) dX1_forget_30 ⟨Nat.zero_le _, Nat.zero_le _⟩ rfl (fun v3 f3 r3 H locs hp3 I => ?_)
    obtain ⟨ev3, ef3, er3⟩ := hp3
    subst ev3
    rw [ef3, er3] at I
    exact ret _ _ _ _ _ _ _ dX1_forget_33 (rfl) I (Or.inr ⟨by omega, rfl, sx5⟩)
  · refine lv_bipush (v := -3) hx hb dX1_forget_7 (by decide) ?_
    exact ret _ _ _ _ _ _ _ dX1_forget_9 (rfl) I (Or.inl ⟨c4, rfl, rfl, rfl⟩)
set_option maxHeartbeats 4000000 in
set_option maxRecDepth 100000 in
theorem metX_code (l : Launch) (DD : va_G) (dd : ClassId) (h : Nat) (a : Nat → Nat) (f : Nat → Int32) (r : Nat → Nat → Int32) {L D N c : Nat} {G B : Nat → Nat} (v : Int32) (sx : stX L D N c G B f r) : mG l wX yX1_code cX1_code 4 .int (rmK 0) DD dd h a f r [.int (v)] (fun z f' r' => z = cbCode (cbPos L D G B c) v N 0 0 ∧ f' = f ∧ r' = r) := by
  refine mG_start (by decide) (Nat.le_of_ble_eq_true rfl) ?_
  intro p ee s m args below meth cd AA Q ls C I hl ret
  have hx := C.1
  have hb := C.2.1
  have hl : lv_has ls 4 [(0, .ref h), (1, .int (v))] := hl
  have gm := sx.1
  obtain ⟨hL1, hL4, hD1, hD3, hN1, hN81, hNe⟩ := gm.1
  have hc8 := sx.2.1
  have hf5 := sx.2.2.1
  have hGB := sx.2.2.2.1
  have hbad := sx.2.2.2.2
  obtain ⟨P, hP⟩ : ∃ P, P = cbPos L D G B c := ⟨_, rfl⟩
  obtain ⟨res, hres⟩ : ∃ z, z = cbCode P v N 0 0 := ⟨_, rfl⟩
  refine lv_iconst (v := nI 0) hx hb dX1_code_0 (by decide) ?_
  refine lv_istore_n (lv' := [(2, .int (nI 0)), (0, .ref h), (1, .int (v))]) hx hb dX1_code_1 rfl hl (by decide) rfl (fun ls hl => ?_)
  refine lv_iconst (v := nI 0) hx hb dX1_code_2 (by decide) ?_
  refine lv_istore_n (lv' := [(3, .int (nI 0)), (2, .int (nI 0)), (0, .ref h), (1, .int (v))]) hx hb dX1_code_3 rfl hl (by decide) rfl (fun ls hl => ?_)
  have loop4 : ∀ (n : Nat) (i : Nat) (H : Heap) (locs : List Loc) (ls : Array Slot), (N < i + n) → (i ≤ N) → (cbCode P v (N - i) i (cbCnt P i) = res) → iG wX DD dd AA s.heap h a f r H locs → lv_has ls 4 [(0, .ref h), (1, .int (v)), (2, .int (nI (cbCnt P i))), (3, .int (nI i))] → W p l ee (rmK 0) s m args below meth cd H locs 0 0 Q (F0 m 4 ls []) := by
    intro n
    induction n with
    | zero =>
      intros; exfalso; omega
    | succ n ih =>
      intro i H locs ls h1 h2 h3 I hl
      refine lv_iload_n hx hb dX1_code_4 rfl (lv_at hl 3 rfl) ?_
      refine lv_aload_n hx hb dX1_code_5 rfl (lv_at hl 0 rfl) ?_
      refine gX_2 C I (v := nI (N)) (gm.2.2.2.1) dX1_code_6 ?_
      refine n_icge (tgt := 37) hx hb (by omega) (by omega) dX1_code_9 (by decide) (fun c9 => ?_) (fun c9 => ?_)
      · refine lv_bipush (v := -3) hx hb dX1_code_37 (by decide) ?_
        exact ret _ _ _ _ _ _ _ dX1_code_39 (rfl) I (⟨by rw [← hP, ← hres, ← h3, show N - i = 0 by omega]; rfl, rfl, rfl⟩)
      · have eN : N - i = (N - (i + 1)) + 1 := by omega
        rw [eN] at h3
        refine lv_aload_n hx hb dX1_code_12 rfl (lv_at hl 0 rfl) ?_
        refine gX_8 C I dX1_code_13 ?_
        refine lv_iload_n hx hb dX1_code_16 rfl (lv_at hl 3 rfl) ?_
        refine ldX_8 C I (i) (rfl) (by omega) (v := nI (cbBad L D G B c i)) (hbad i c9) dX1_code_17 ?_
        refine n_ifne (tgt := 31) hx hb (Nat.lt_of_le_of_lt (cbBad_le _ _ _ _ _ _) (by omega)) dX1_code_18 (by decide) (fun c18 => ?_) (fun c18 => ?_)
        · have hp : P i = false := by rw [hP]; exact decide_eq_false c18
          have h9 : cbCode P v (N - (i + 1)) (i + 1) (cbCnt P (i + 1)) = res := by rw [cbCnt_f hp, ← h3, cbCode_f hp]
          rw [← cbCnt_f hp] at hl
          refine lv_iinc (v := nI (i + 1)) (lv' := [(3, .int (nI (i + 1))), (0, .ref h), (1, .int (v)), (2, .int (nI (cbCnt P (i + 1))))]) hx hb dX1_code_31 hl (k := 3) rfl (nI_1 _) (by decide) rfl (fun ls hl => ?_)
          refine lv_goto (tgt := 4) hx hb dX1_code_34 (by decide) ?_
          exact ih (i + 1) _ _ _ (by omega) (by omega) h9 I (lv_sub hl [1, 2, 3, 0] rfl)
        · have hp : P i = true := by rw [hP]; exact decide_eq_true c18
          refine lv_iload_n hx hb dX1_code_21 rfl (lv_at hl 2 rfl) ?_
          refine lv_iload_n hx hb dX1_code_22 rfl (lv_at hl 1 rfl) ?_
          refine lv_icmp_ne (tgt := 28) hx hb dX1_code_23 (by decide) (fun c23 => ?_) (fun c23 => ?_)
          · have h9 : cbCode P v (N - (i + 1)) (i + 1) (cbCnt P (i + 1)) = res := by rw [cbCnt_t hp, ← h3, cbCode_t hp c23]
            refine lv_iinc (v := nI (cbCnt P (i + 1))) (lv' := [(2, .int (nI (cbCnt P (i + 1)))), (0, .ref h), (1, .int (v)), (3, .int (nI i))]) hx hb dX1_code_28 hl (k := 2) rfl (by rw [cbCnt_t hp]; exact nI_1 _) (by decide) rfl (fun ls hl => ?_)
            refine lv_iinc (v := nI (i + 1)) (lv' := [(3, .int (nI (i + 1))), (2, .int (nI (cbCnt P (i + 1)))), (0, .ref h), (1, .int (v))]) hx hb dX1_code_31 hl (k := 3) rfl (nI_1 _) (by decide) rfl (fun ls hl => ?_)
            refine lv_goto (tgt := 4) hx hb dX1_code_34 (by decide) ?_
            exact ih (i + 1) _ _ _ (by omega) (by omega) h9 I (lv_sub hl [2, 3, 1, 0] rfl)
          · refine lv_iload_n hx hb dX1_code_26 rfl (lv_at hl 3 rfl) ?_
            exact ret _ _ _ _ _ _ _ dX1_code_27 (rfl) I (⟨by rw [← hP, ← hres, ← h3, cbCode_r hp c23], rfl, rfl⟩)
  exact loop4 (N + 1) 0 _ _ _ (by omega) (by omega) hres.symm I (lv_sub hl [2, 3, 1, 0] rfl)
set_option maxHeartbeats 4000000 in
set_option maxRecDepth 100000 in
theorem metX_canBe (l : Launch) (DD : va_G) (dd : ClassId) (h : Nat) (a : Nat → Nat) (f : Nat → Int32) (r : Nat → Nat → Int32) {L D N c : Nat} {G B : Nat → Nat} (x : Int32) (sx : stX L D N c G B f r) : mG l wX yX1_canBe cX1_canBe 2 .boolean (rmK 1) DD dd h a f r [.int (x)] (fun v f' r' => (v = nI 1 ∧ (∃ j, j < N ∧ x = nI j ∧ cbPos L D G B c j = true) ∨ v = nI 0 ∧ ¬ ∃ j, j < N ∧ x = nI j ∧ cbPos L D G B c j = true) ∧ f' = f ∧ r' = r) := by
  refine mG_start (by decide) (Nat.le_of_ble_eq_true rfl) ?_
  intro p ee s m args below meth cd AA Q ls C I hl ret
  have hx := C.1
  have hb := C.2.1
  have hl : lv_has ls 2 [(0, .ref h), (1, .int (x))] := hl
  have gm := sx.1
  obtain ⟨hL1, hL4, hD1, hD3, hN1, hN81, hNe⟩ := gm.1
  have hc8 := sx.2.1
  have hf5 := sx.2.2.1
  have hGB := sx.2.2.2.1
  have hbad := sx.2.2.2.2
  refine lv_aload_n hx hb dX1_canBe_0 rfl (lv_at hl 0 rfl) ?_
  refine lv_iload_n hx hb dX1_canBe_1 rfl (lv_at hl 1 rfl) ?_
  refine mG_call (q := (RX1, TX1, 18)) (ci := 0) C I (metX_badCode l DD dd h a f r x gm) ⟨_, rfl⟩ rfl cwX_XbadCode cdX_badCode ⟨Nat.le_of_ble_eq_true rfl, Nat.le_of_ble_eq_true rfl⟩ ⟨rfl, rfl⟩ rfl hl.1 (Nat.le_of_ble_eq_true rfl) dX1_canBe_2 ⟨Nat.zero_le _, Nat.zero_le _⟩ rfl (fun v1 f1 r1 H locs hp1 I => ?_)
  obtain ⟨hqa, ef1, er1⟩ := hp1
  rw [ef1, er1] at I
  refine lv_if_ne (tgt := 21) hx hb dX1_canBe_5 (by decide) (fun c5 => ?_) (fun c5 => ?_)
  · have hq : ¬ ∃ j, j < N ∧ x = nI j ∧ cbPos L D G B c j = true := by
      rcases hqa with ⟨-, q⟩ | ⟨q, -⟩
      · rintro ⟨j, z1, z2, -⟩; exact q ⟨j, z1, z2⟩
      · exact absurd q c5
    refine lv_iconst (v := nI 0) hx hb dX1_canBe_21 (by decide) ?_
    exact ret _ _ _ _ _ _ _ dX1_canBe_22 (rfl) I (by first | exact ⟨Or.inr ⟨rfl, hq⟩, rfl, rfl⟩ | exact ⟨Or.inl ⟨rfl, j, hj, rfl, decide_eq_true c14⟩, rfl, rfl⟩)
  · obtain ⟨j, hj, rfl⟩ : cbIs N x := by
      rcases hqa with ⟨q, -⟩ | ⟨-, q⟩
      · rw [q] at c5; exact absurd c5 (by decide)
      · exact q
    refine lv_aload_n hx hb dX1_canBe_8 rfl (lv_at hl 0 rfl) ?_
    refine gX_8 C I dX1_canBe_9 ?_
    refine lv_iload_n hx hb dX1_canBe_12 rfl (lv_at hl 1 rfl) ?_
    refine ldX_8 C I (j) (rfl) (by omega) (v := nI (cbBad L D G B c j)) (hbad j hj) dX1_canBe_13 ?_
    refine n_ifne (tgt := 21) hx hb (Nat.lt_of_le_of_lt (cbBad_le _ _ _ _ _ _) (by omega)) dX1_canBe_14 (by decide) (fun c14 => ?_) (fun c14 => ?_)
    · have hq : ¬ ∃ j', j' < N ∧ nI j = nI j' ∧ cbPos L D G B c j' = true := by
        rintro ⟨j2, z1, z2, z3⟩
        have z4 := (nI_eq (by omega) (by omega)).mp z2
        subst z4
        exact c14 (of_decide_eq_true z3)
      refine lv_iconst (v := nI 0) hx hb dX1_canBe_21 (by decide) ?_
      exact ret _ _ _ _ _ _ _ dX1_canBe_22 (rfl) I (by first | exact ⟨Or.inr ⟨rfl, hq⟩, rfl, rfl⟩ | exact ⟨Or.inl ⟨rfl, j, hj, rfl, decide_eq_true c14⟩, rfl, rfl⟩)
    · refine lv_iconst (v := nI 1) hx hb dX1_canBe_17 (by decide) ?_
      refine lv_goto (tgt := 22) hx hb dX1_canBe_18 (by decide) ?_
      exact ret _ _ _ _ _ _ _ dX1_canBe_22 (rfl) I (by first | exact ⟨Or.inr ⟨rfl, hq⟩, rfl, rfl⟩ | exact ⟨Or.inl ⟨rfl, j, hj, rfl, decide_eq_true c14⟩, rfl, rfl⟩)
end
section
set_option maxRecDepth 100000
set_option maxHeartbeats 4000000 in
set_option maxRecDepth 100000 in
theorem metX_partBy (l : Launch) (DD : va_G) (dd : ClassId) (h : Nat) (a : Nat → Nat) (f : Nat → Int32) (r : Nat → Nat → Int32) {L D N c : Nat} {G B : Nat → Nat} (g : Nat) (sx : stX L D N c G B f r) (hg : g < N) : mGv l wX yX1_partBy cX1_partBy 4 (rmK 1) DD dd h a f r [.int (nI g)] (fun f' r' => (∀ j, j ≠ 9 → r' j = r j) ∧ (∀ k, k ≠ 10 → k ≠ 11 → k ≠ 12 → f' k = f k) ∧ f' 10 = nI (cbParts L D (cbPos L D G B c) N g) ∧ f' 11 = nI (cbWorst L D (cbPos L D G B c) N g) ∧ f' 12 = nI (cbWeight L D (cbPos L D G B c) N g)) := by
  refine mGv_start (by decide) (Nat.le_of_ble_eq_true rfl) ?_
  intro p ee s m args below meth cd AA Q ls C I hl ret
  have hx := C.1
  have hb := C.2.1
  have hl : lv_has ls 4 [(0, .ref h), (1, .int (nI g))] := hl
  have gm := sx.1
  obtain ⟨hL1, hL4, hD1, hD3, hN1, hN81, hNe⟩ := gm.1
  have hc8 := sx.2.1
  have hf5 := sx.2.2.1
  have hGB := sx.2.2.2.1
  have hbad := sx.2.2.2.2
  obtain ⟨K, hK⟩ : ∃ K : Nat → Nat → Bool, K = (fun t x => cbPos L D G B c x && decide (cbAns L D g x = t)) := ⟨_, rfl⟩
  obtain ⟨S, hS⟩ : ∃ S : Nat → Nat, S = cbPart L D (cbPos L D G B c) N g := ⟨_, rfl⟩
  obtain ⟨Z, hZ⟩ : ∃ Z : Nat → Bool, Z = (fun t => decide (0 < S t)) := ⟨_, rfl⟩
  obtain ⟨T, hT⟩ : ∃ T : Nat → Nat, T = (fun t => S t * S t) := ⟨_, rfl⟩
  refine lv_iconst (v := nI 0) hx hb dX1_partBy_0 (by decide) ?_
  refine lv_istore_n (lv' := [(2, .int (nI 0)), (0, .ref h), (1, .int (nI g))]) hx hb dX1_partBy_1 rfl hl (by decide) rfl (fun ls hl => ?_)
  have loop2 : ∀ (n : Nat) (t : Nat) (rL : Nat → Nat → Int32) (H : Heap) (locs : List Loc) (ls : Array Slot), (45 < t + n) → (t ≤ 45) → (∀ j, j ≠ 9 → rL j = r j) → (∀ y, y < t → rL 9 y = nI 0) → iG wX DD dd AA s.heap h a f rL H locs → lv_has ls 4 [(0, .ref h), (1, .int (nI g)), (2, .int (nI t))] → W p l ee (rmK 1) s m args below meth cd H locs 0 0 Q (F0 m 2 ls []) := by
    intro n
    induction n with
    | zero =>
      intros; exfalso; omega
    | succ n ih =>
      intro t rL H locs ls h1 h2 hr hy I hl
      refine lv_iload_n hx hb dX1_partBy_2 rfl (lv_at hl 2 rfl) ?_
      refine lv_bipush (v := nI 45) hx hb dX1_partBy_3 (by decide) ?_
      refine n_icge (tgt := 21) hx hb (by omega) (by omega) dX1_partBy_5 (by decide) (fun c5 => ?_) (fun c5 => ?_)
      · have hy : ∀ y, y < 45 → rL 9 y = nI 0 := fun y hy0 => hy y (by omega)
        clear h1 h2 ih c5
        refine lv_iconst (v := nI 0) hx hb dX1_partBy_21 (by decide) ?_
        refine lv_istore_n (lv' := [(2, .int (nI 0)), (0, .ref h), (1, .int (nI g))]) hx hb dX1_partBy_22 rfl hl (by decide) rfl (fun ls hl => ?_)
        have loop23 : ∀ (n2 : Nat) (x : Nat) (rB : Nat → Nat → Int32) (H : Heap) (locs : List Loc) (ls : Array Slot), (N < x + n2) → (x ≤ N) → (∀ j, j ≠ 9 → rB j = r j) → (∀ t, t < 45 → rB 9 t = nI (cbCnt (K t) x)) → iG wX DD dd AA s.heap h a f rB H locs → lv_has ls 4 [(0, .ref h), (1, .int (nI g)), (2, .int (nI x))] → W p l ee (rmK 1) s m args below meth cd H locs 0 0 Q (F0 m 23 ls []) := by
          intro n2
          induction n2 with
          | zero =>
            intros; exfalso; omega
          | succ n2 ih2 =>
            intro x rB H locs ls h3 h4 hrB hyB I hl
            have gmB : geoX L D N f rB := gm.keep (fun _ _ => rfl) (fun j hj => hrB j (by omega))
            refine lv_iload_n hx hb dX1_partBy_23 rfl (lv_at hl 2 rfl) ?_
            refine lv_aload_n hx hb dX1_partBy_24 rfl (lv_at hl 0 rfl) ?_
            refine gX_2 C I (v := nI (N)) (gm.2.2.2.1) dX1_partBy_25 ?_
            refine n_icge (tgt := 67) hx hb (by omega) (by omega) dX1_partBy_28 (by decide) (fun c28 => ?_) (fun c28 => ?_)
            · have e5 : N = x := by omega
              subst e5
              refine lv_aload_n hx hb dX1_partBy_67 rfl (lv_at hl 0 rfl) ?_
              refine lv_iconst (v := nI 0) hx hb dX1_partBy_68 (by decide) ?_
              refine pX_10 C I dX1_partBy_69 (fun H locs f1 ef1 of1 I => ?_)
              refine lv_aload_n hx hb dX1_partBy_72 rfl (lv_at hl 0 rfl) ?_
              refine lv_iconst (v := nI 0) hx hb dX1_partBy_73 (by decide) ?_
              refine pX_11 C I dX1_partBy_74 (fun H locs f2 ef2 of2 I => ?_)
              refine lv_aload_n hx hb dX1_partBy_77 rfl (lv_at hl 0 rfl) ?_
              refine lv_iconst (v := nI 0) hx hb dX1_partBy_78 (by decide) ?_
              refine pX_12 C I dX1_partBy_79 (fun H locs f3 ef3 of3 I => ?_)
              refine lv_iconst (v := nI 0) hx hb dX1_partBy_82 (by decide) ?_
              refine lv_istore_n (lv' := [(2, .int (nI 0)), (0, .ref h), (1, .int (nI g))]) hx hb dX1_partBy_83 rfl hl (by decide) rfl (fun ls hl => ?_)
              have loop84 : ∀ (n3 : Nat) (t : Nat) (fL : Nat → Int32) (H : Heap) (locs : List Loc) (ls : Array Slot), (45 < t + n3) → (t ≤ 45) → (∀ k, k ≠ 10 → k ≠ 11 → k ≠ 12 → fL k = f k) → (fL 10 = nI (cbCnt Z t)) → (fL 11 = nI (cbMax S t)) → (fL 12 = nI (cbSum T t)) → iG wX DD dd AA s.heap h a fL rB H locs → lv_has ls 4 [(0, .ref h), (1, .int (nI g)), (2, .int (nI t))] → W p l ee (rmK 1) s m args below meth cd H locs 0 0 Q (F0 m 84 ls []) := by
                intro n3
                induction n3 with
                | zero =>
                  intros; exfalso; omega
                | succ n3 ih3 =>
                  intro t fL H locs ls h5 h6 hfL h10 h11 h12 I hl
                  have hSt : S t ≤ N := by rw [hS]; exact cbCnt_le _ _
                  have hMt : cbMax S t ≤ N := by rw [hS]; exact cbMax_bound (fun k _ => cbCnt_le _ _)
                  refine lv_iload_n hx hb dX1_partBy_84 rfl (lv_at hl 2 rfl) ?_
                  refine lv_bipush (v := nI 45) hx hb dX1_partBy_85 (by decide) ?_
                  refine n_icge (tgt := 156) hx hb (by omega) (by omega) dX1_partBy_87 (by decide) (fun c87 => ?_) (fun c87 => ?_)
                  · have e7 : t = 45 := by omega
                    subst e7
                    exact ret _ _ _ _ _ _ dX1_partBy_156 I (⟨hrB, hfL, by rw [h10, hZ, hS]; rfl, by rw [h11, hS]; rfl, by rw [h12, hT, hS]; rfl⟩)
                  · refine lv_aload_n hx hb dX1_partBy_90 rfl (lv_at hl 0 rfl) ?_
                    refine gX_9 C I dX1_partBy_91 ?_
                    refine lv_iload_n hx hb dX1_partBy_94 rfl (lv_at hl 2 rfl) ?_
                    refine ldX_9 C I (t) (rfl) (by omega) (v := nI (S t)) (by rw [hyB t (by omega), hS, hK]; rfl) dX1_partBy_95 ?_
                    refine lv_istore_n (lv' := [(3, .int (nI (S t))), (0, .ref h), (1, .int (nI g)), (2, .int (nI t))]) hx hb dX1_partBy_96 rfl hl (by decide) rfl (fun ls hl => ?_)
                    refine lv_aload_n hx hb dX1_partBy_97 rfl (lv_at hl 1 rfl) ?_
                    refine lv_iload_n hx hb dX1_partBy_98 rfl (lv_at hl 0 rfl) ?_
                    have join115 : W p l ee (rmK 1) s m args below meth cd H locs 0 0 Q (F0 m 115 ls [.int (nI (cbCnt Z (t + 1))), .ref h]) := by
                      refine pX_10 C I dX1_partBy_115 (fun H locs fD efD ofD I => ?_)
                      refine lv_aload_n hx hb dX1_partBy_118 rfl (lv_at hl 1 rfl) ?_
                      refine lv_iload_n hx hb dX1_partBy_119 rfl (lv_at hl 0 rfl) ?_
                      refine lv_aload_n hx hb dX1_partBy_120 rfl (lv_at hl 1 rfl) ?_
                      refine gX_11 C I (v := nI (cbMax S t)) ((ofD 11 (by decide)).trans h11) dX1_partBy_121 ?_
                      have join135 : W p l ee (rmK 1) s m args below meth cd H locs 0 0 Q (F0 m 135 ls [.int (nI (cbMax S (t + 1))), .ref h]) := by
                        refine pX_11 C I dX1_partBy_135 (fun H locs fE efE ofE I => ?_)
                        refine lv_aload_n hx hb dX1_partBy_138 rfl (lv_at hl 1 rfl) ?_
                        refine lv_aload_n hx hb dX1_partBy_139 rfl (lv_at hl 1 rfl) ?_
                        refine gX_12 C I (v := nI (cbSum T t)) (by rw [ofE 12 (by decide), ofD 12 (by decide)]; exact h12) dX1_partBy_140 ?_
                        refine lv_iload_n hx hb dX1_partBy_143 rfl (lv_at hl 0 rfl) ?_
                        refine lv_iload_n hx hb dX1_partBy_144 rfl (lv_at hl 0 rfl) ?_
                        refine n_mul hx hb dX1_partBy_145 ?_
                        refine n_add hx hb dX1_partBy_146 ?_
                        refine w_top (v := nI (cbSum T (t + 1))) (by rw [hT]; rfl) ?_
                        refine pX_12 C I dX1_partBy_147 (fun H locs fF efF ofF I => ?_)
                        refine lv_iinc (v := nI (t + 1)) (lv' := [(2, .int (nI (t + 1))), (3, .int (nI (S t))), (0, .ref h), (1, .int (nI g))]) hx hb dX1_partBy_150 hl (k := 3) rfl (nI_1 _) (by decide) rfl (fun ls hl => ?_)
                        refine lv_goto (tgt := 84) hx hb dX1_partBy_153 (by decide) ?_
                        exact ih3 (t + 1) _ _ _ _ (by omega) (by omega) (fun k k1 k2 k3 => by rw [ofF k k3, ofE k k2, ofD k k1]; exact hfL k k1 k2 k3) (by rw [ofF 10 (by decide), ofE 10 (by decide)]; exact efD) (by rw [ofF 11 (by decide)]; exact efE) efF I (lv_sub hl [2, 3, 0] rfl)
                      refine n_icle (tgt := 131) hx hb (by omega) (by omega) dX1_partBy_124 (by decide) (fun c124 => ?_) (fun c124 => ?_)
                      · refine lv_aload_n hx hb dX1_partBy_131 rfl (lv_at hl 1 rfl) ?_
                        refine gX_11 C I (v := nI (cbMax S t)) ((ofD 11 (by decide)).trans h11) dX1_partBy_132 ?_
                        refine w_top (v := nI (cbMax S (t + 1))) (by rw [cbMax_n c124]) ?_
                        exact join135
                      · refine lv_iload_n hx hb dX1_partBy_127 rfl (lv_at hl 0 rfl) ?_
                        refine lv_goto (tgt := 135) hx hb dX1_partBy_128 (by decide) ?_
                        refine w_top (v := nI (cbMax S (t + 1))) (by rw [cbMax_p c124]) ?_
                        exact join135
                    refine n_ifle (tgt := 111) hx hb (by omega) dX1_partBy_99 (by decide) (fun c99 => ?_) (fun c99 => ?_)
                    · refine lv_aload_n hx hb dX1_partBy_111 rfl (lv_at hl 1 rfl) ?_
                      refine gX_10 C I (v := nI (cbCnt Z t)) (h10) dX1_partBy_112 ?_
                      refine w_top (v := nI (cbCnt Z (t + 1))) (by rw [cbCnt_f (by rw [hZ]; exact decide_eq_false (by omega))]) ?_
                      exact join115
                    · refine lv_aload_n hx hb dX1_partBy_102 rfl (lv_at hl 1 rfl) ?_
                      refine gX_10 C I (v := nI (cbCnt Z t)) (h10) dX1_partBy_103 ?_
                      refine lv_iconst (v := nI 1) hx hb dX1_partBy_106 (by decide) ?_
                      refine n_add hx hb dX1_partBy_107 ?_
                      refine lv_goto (tgt := 115) hx hb dX1_partBy_108 (by decide) ?_
                      refine w_top (v := nI (cbCnt Z (t + 1))) (by rw [cbCnt_t (by rw [hZ]; exact decide_eq_true c99)]) ?_
                      exact join115
              exact loop84 46 0 _ _ _ _ (by omega) (by omega) (fun k k1 k2 k3 => by rw [of3 k k3, of2 k k2, of1 k k1]) (by rw [of3 10 (by decide), of2 10 (by decide)]; exact ef1) (by rw [of3 11 (by decide)]; exact ef2) ef3 I (lv_sub hl [1, 2, 0] rfl)
            · refine lv_aload_n hx hb dX1_partBy_31 rfl (lv_at hl 0 rfl) ?_
              refine gX_8 C I dX1_partBy_32 ?_
              refine lv_iload_n hx hb dX1_partBy_35 rfl (lv_at hl 2 rfl) ?_
              refine ldX_8 C I (x) (rfl) (by omega) (v := nI (cbBad L D G B c x)) (by rw [hrB 8 (by decide)]; exact hbad x c28) dX1_partBy_36 ?_
              refine n_ifne (tgt := 61) hx hb (Nat.lt_of_le_of_lt (cbBad_le _ _ _ _ _ _) (by omega)) dX1_partBy_37 (by decide) (fun c37 => ?_) (fun c37 => ?_)
              · have hn1 := hrB
                have hn2 : ∀ t, t < 45 → rB 9 t = nI (cbCnt (K t) (x + 1)) := fun t ht => by
                  rw [hyB t ht, cbCnt_f]
                  rw [hK]; simp [cbPos, c37]
                refine lv_iinc (v := nI (x + 1)) (lv' := [(2, .int (nI (x + 1))), (0, .ref h), (1, .int (nI g))]) hx hb dX1_partBy_61 hl (k := 2) rfl (nI_1 _) (by decide) rfl (fun ls hl => ?_)
                refine lv_goto (tgt := 23) hx hb dX1_partBy_64 (by decide) ?_
                exact ih2 (x + 1) _ _ _ _ (by omega) (by omega) hn1 hn2 I (lv_sub hl [1, 2, 0] rfl)
              · refine lv_aload_n hx hb dX1_partBy_40 rfl (lv_at hl 0 rfl) ?_
                refine lv_iload_n hx hb dX1_partBy_41 rfl (lv_at hl 1 rfl) ?_
                refine lv_iload_n hx hb dX1_partBy_42 rfl (lv_at hl 2 rfl) ?_
                refine mG_call (q := (RX1, TX1, 18)) (ci := 0) C I (metX_answerTo l DD dd h a f rB g x gmB hg c28) ⟨_, rfl⟩ rfl cwX_XanswerTo cdX_answerTo ⟨Nat.le_of_ble_eq_true rfl, Nat.le_of_ble_eq_true rfl⟩ ⟨rfl, rfl⟩ rfl hl.1 (Nat.le_of_ble_eq_true rfl) dX1_partBy_43 ⟨Nat.zero_le _, Nat.zero_le _⟩ rfl (fun v1 f1 r1 H locs hp1 I => ?_)
                obtain ⟨ev1, ef1, er1⟩ := hp1
                subst ev1
                rw [ef1, er1] at I
                refine lv_istore_n (lv' := [(3, .int (nI (cbAns L D g x))), (0, .ref h), (1, .int (nI g)), (2, .int (nI x))]) hx hb dX1_partBy_46 rfl hl (by decide) rfl (fun ls hl => ?_)
                refine lv_aload_n hx hb dX1_partBy_47 rfl (lv_at hl 1 rfl) ?_
                refine gX_9 C I dX1_partBy_48 ?_
                refine lv_iload_n hx hb dX1_partBy_51 rfl (lv_at hl 0 rfl) ?_
                refine lv_aload_n hx hb dX1_partBy_52 rfl (lv_at hl 1 rfl) ?_
                refine gX_9 C I dX1_partBy_53 ?_
                refine lv_iload_n hx hb dX1_partBy_56 rfl (lv_at hl 0 rfl) ?_
                refine ldX_9 C I (cbAns L D g x) (rfl) (cbAns_lt hD1 hL4 _ _) (v := nI (cbCnt (K (cbAns L D g x)) x)) (hyB _ (cbAns_lt hD1 hL4 _ _)) dX1_partBy_57 ?_
                refine lv_iconst (v := nI 1) hx hb dX1_partBy_58 (by decide) ?_
                refine n_add hx hb dX1_partBy_59 ?_
                refine stX_9 C I (cbAns L D g x) (rfl) (cbAns_lt hD1 hL4 _ _) dX1_partBy_60 (fun H locs rC erC orC I => ?_)
                have hn1 : ∀ j, j ≠ 9 → rC j = r j := fun j hj => (orC j hj).trans (hrB j hj)
                have hn2 : ∀ t, t < 45 → rC 9 t = nI (cbCnt (K t) (x + 1)) := fun t ht => by
                  rw [erC]
                  by_cases hta : t = cbAns L D g x
                  · subst hta
                    rw [pk_us, cbCnt_t]
                    rw [hK]; simp [cbPos, c37]
                  · rw [pk_un hta, hyB t ht, cbCnt_f]
                    rw [hK]; simp [Ne.symm hta]
                refine lv_iinc (v := nI (x + 1)) (lv' := [(2, .int (nI (x + 1))), (3, .int (nI (cbAns L D g x))), (0, .ref h), (1, .int (nI g))]) hx hb dX1_partBy_61 hl (k := 3) rfl (nI_1 _) (by decide) rfl (fun ls hl => ?_)
                refine lv_goto (tgt := 23) hx hb dX1_partBy_64 (by decide) ?_
                exact ih2 (x + 1) _ _ _ _ (by omega) (by omega) hn1 hn2 I (lv_sub hl [2, 3, 0] rfl)
        exact loop23 (N + 1) 0 _ _ _ _ (by omega) (by omega) hr (fun t ht => hy t ht) I (lv_sub hl [1, 2, 0] rfl)
      · refine lv_aload_n hx hb dX1_partBy_8 rfl (lv_at hl 0 rfl) ?_
        refine gX_9 C I dX1_partBy_9 ?_
        refine lv_iload_n hx hb dX1_partBy_12 rfl (lv_at hl 2 rfl) ?_
        refine lv_iconst (v := nI 0) hx hb dX1_partBy_13 (by decide) ?_
        refine stX_9 C I (t) (rfl) (by omega) dX1_partBy_14 (fun H locs rA erA orA I => ?_)
        refine lv_iinc (v := nI (t + 1)) (lv' := [(2, .int (nI (t + 1))), (0, .ref h), (1, .int (nI g))]) hx hb dX1_partBy_15 hl (k := 2) rfl (nI_1 _) (by decide) rfl (fun ls hl => ?_)
        refine lv_goto (tgt := 2) hx hb dX1_partBy_18 (by decide) ?_
        refine ih (t + 1) _ _ _ _ (by omega) (by omega) (fun j hj => (orA j hj).trans (hr j hj)) ?_ I (lv_sub hl [1, 2, 0] rfl)
        intro y hyt
        rw [erA]
        by_cases hyx : y = t
        · subst hyx
          rw [pk_us]
        · rw [pk_un hyx]; exact hy y (by omega)
  exact loop2 46 0 _ _ _ _ (by omega) (by omega) (fun _ _ => rfl) (fun y hy0 => absurd hy0 (by omega)) I (lv_sub hl [1, 2, 0] rfl)
set_option maxHeartbeats 4000000 in
set_option maxRecDepth 100000 in
theorem metX_parts (l : Launch) (DD : va_G) (dd : ClassId) (h : Nat) (a : Nat → Nat) (f : Nat → Int32) (r : Nat → Nat → Int32) {L D N c : Nat} {G B : Nat → Nat} (x : Int32) (sx : stX L D N c G B f r) : mG l wX yX1_parts cX1_parts 2 .int (rmK 2) DD dd h a f r [.int (x)] (fun v f' r' => (v = -1 ∧ ¬ cbIs N x ∨ ∃ g, g < N ∧ x = nI g ∧ v = nI (cbParts L D (cbPos L D G B c) N g)) ∧ stX L D N c G B f' r') := by
  refine mG_start (by decide) (Nat.le_of_ble_eq_true rfl) ?_
  intro p ee s m args below meth cd AA Q ls C I hl ret
  have hx := C.1
  have hb := C.2.1
  have hl : lv_has ls 2 [(0, .ref h), (1, .int (x))] := hl
  have gm := sx.1
  obtain ⟨hL1, hL4, hD1, hD3, hN1, hN81, hNe⟩ := gm.1
  have hc8 := sx.2.1
  have hf5 := sx.2.2.1
  have hGB := sx.2.2.2.1
  have hbad := sx.2.2.2.2
  refine lv_aload_n hx hb dX1_parts_0 rfl (lv_at hl 0 rfl) ?_
  refine lv_iload_n hx hb dX1_parts_1 rfl (lv_at hl 1 rfl) ?_
  refine mG_call (q := (RX1, TX1, 18)) (ci := 0) C I (metX_badCode l DD dd h a f r x gm) ⟨_, rfl⟩ rfl cwX_XbadCode cdX_badCode ⟨Nat.le_of_ble_eq_true rfl, Nat.le_of_ble_eq_true rfl⟩ ⟨rfl, rfl⟩ rfl hl.1 (Nat.le_of_ble_eq_true rfl) dX1_parts_2 ⟨Nat.zero_le _, Nat.zero_le _⟩ rfl (fun v1 f1 r1 H locs hp1 I => ?_)
  obtain ⟨hqa, ef1, er1⟩ := hp1
  rw [ef1, er1] at I
  refine lv_if_eq (tgt := 10) hx hb dX1_parts_5 (by decide) (fun c5 => ?_) (fun c5 => ?_)
  · obtain ⟨g, hg, rfl⟩ : cbIs N x := by
      rcases hqa with ⟨q, -⟩ | ⟨-, q⟩
      · rw [q] at c5; exact absurd c5 (by decide)
      · exact q
    refine lv_aload_n hx hb dX1_parts_10 rfl (lv_at hl 0 rfl) ?_
    refine lv_iload_n hx hb dX1_parts_11 rfl (lv_at hl 1 rfl) ?_
    refine mGv_call (q := (RX1, TX1, 18)) (ci := 0) C I (metX_partBy l DD dd h a f r g sx hg) ⟨_, rfl⟩ rfl cwX_XpartBy cdX_partBy ⟨Nat.le_of_ble_eq_true rfl, Nat.le_of_ble_eq_true rfl⟩ ⟨rfl, rfl⟩ rfl hl.1 (Nat.le_of_ble_eq_true rfl) dX1_parts_12 ⟨Nat.zero_le _, Nat.zero_le _⟩ rfl (fun fP rP H locs hpP I => ?_)
    obtain ⟨w1, w2, w3, w4, w5⟩ := hpP
    have sxP : stX L D N c G B fP rP := sx.keep (fun k hk => w2 k (by omega) (by omega) (by omega)) (fun k hk => w1 k (by omega))
    refine lv_aload_n hx hb dX1_parts_15 rfl (lv_at hl 0 rfl) ?_
    refine gX_10 C I (v := nI (cbParts L D (cbPos L D G B c) N g)) (w3) dX1_parts_16 ?_
    exact ret _ _ _ _ _ _ _ dX1_parts_19 (rfl) I (⟨Or.inr ⟨g, hg, rfl, rfl⟩, sxP⟩)
  · have hq : ¬ cbIs N x := by
      rcases hqa with ⟨-, q⟩ | ⟨q, -⟩
      · exact q
      · exact absurd q c5
    refine lv_iconst (v := -1) hx hb dX1_parts_8 (by decide) ?_
    exact ret _ _ _ _ _ _ _ dX1_parts_9 (rfl) I (⟨Or.inl ⟨rfl, hq⟩, sx⟩)
set_option maxHeartbeats 4000000 in
set_option maxRecDepth 100000 in
theorem metX_worst (l : Launch) (DD : va_G) (dd : ClassId) (h : Nat) (a : Nat → Nat) (f : Nat → Int32) (r : Nat → Nat → Int32) {L D N c : Nat} {G B : Nat → Nat} (x : Int32) (sx : stX L D N c G B f r) : mG l wX yX1_worst cX1_worst 2 .int (rmK 2) DD dd h a f r [.int (x)] (fun v f' r' => (v = -1 ∧ ¬ cbIs N x ∨ ∃ g, g < N ∧ x = nI g ∧ v = nI (cbWorst L D (cbPos L D G B c) N g)) ∧ stX L D N c G B f' r') := by
  refine mG_start (by decide) (Nat.le_of_ble_eq_true rfl) ?_
  intro p ee s m args below meth cd AA Q ls C I hl ret
  have hx := C.1
  have hb := C.2.1
  have hl : lv_has ls 2 [(0, .ref h), (1, .int (x))] := hl
  have gm := sx.1
  obtain ⟨hL1, hL4, hD1, hD3, hN1, hN81, hNe⟩ := gm.1
  have hc8 := sx.2.1
  have hf5 := sx.2.2.1
  have hGB := sx.2.2.2.1
  have hbad := sx.2.2.2.2
  refine lv_aload_n hx hb dX1_worst_0 rfl (lv_at hl 0 rfl) ?_
  refine lv_iload_n hx hb dX1_worst_1 rfl (lv_at hl 1 rfl) ?_
  refine mG_call (q := (RX1, TX1, 18)) (ci := 0) C I (metX_badCode l DD dd h a f r x gm) ⟨_, rfl⟩ rfl cwX_XbadCode cdX_badCode ⟨Nat.le_of_ble_eq_true rfl, Nat.le_of_ble_eq_true rfl⟩ ⟨rfl, rfl⟩ rfl hl.1 (Nat.le_of_ble_eq_true rfl) dX1_worst_2 ⟨Nat.zero_le _, Nat.zero_le _⟩ rfl (fun v1 f1 r1 H locs hp1 I => ?_)
  obtain ⟨hqa, ef1, er1⟩ := hp1
  rw [ef1, er1] at I
  refine lv_if_eq (tgt := 10) hx hb dX1_worst_5 (by decide) (fun c5 => ?_) (fun c5 => ?_)
  · obtain ⟨g, hg, rfl⟩ : cbIs N x := by
      rcases hqa with ⟨q, -⟩ | ⟨-, q⟩
      · rw [q] at c5; exact absurd c5 (by decide)
      · exact q
    refine lv_aload_n hx hb dX1_worst_10 rfl (lv_at hl 0 rfl) ?_
    refine lv_iload_n hx hb dX1_worst_11 rfl (lv_at hl 1 rfl) ?_
    refine mGv_call (q := (RX1, TX1, 18)) (ci := 0) C I (metX_partBy l DD dd h a f r g sx hg) ⟨_, rfl⟩ rfl cwX_XpartBy cdX_partBy ⟨Nat.le_of_ble_eq_true rfl, Nat.le_of_ble_eq_true rfl⟩ ⟨rfl, rfl⟩ rfl hl.1 (Nat.le_of_ble_eq_true rfl) dX1_worst_12 ⟨Nat.zero_le _, Nat.zero_le _⟩ rfl (fun fP rP H locs hpP I => ?_)
    obtain ⟨w1, w2, w3, w4, w5⟩ := hpP
    have sxP : stX L D N c G B fP rP := sx.keep (fun k hk => w2 k (by omega) (by omega) (by omega)) (fun k hk => w1 k (by omega))
    refine lv_aload_n hx hb dX1_worst_15 rfl (lv_at hl 0 rfl) ?_
    refine gX_11 C I (v := nI (cbWorst L D (cbPos L D G B c) N g)) (w4) dX1_worst_16 ?_
    exact ret _ _ _ _ _ _ _ dX1_worst_19 (rfl) I (⟨Or.inr ⟨g, hg, rfl, rfl⟩, sxP⟩)
  · have hq : ¬ cbIs N x := by
      rcases hqa with ⟨-, q⟩ | ⟨q, -⟩
      · exact q
      · exact absurd q c5
    refine lv_iconst (v := -1) hx hb dX1_worst_8 (by decide) ?_
    exact ret _ _ _ _ _ _ _ dX1_worst_9 (rfl) I (⟨Or.inl ⟨rfl, hq⟩, sx⟩)
set_option maxHeartbeats 4000000 in
set_option maxRecDepth 100000 in
theorem metX_weight (l : Launch) (DD : va_G) (dd : ClassId) (h : Nat) (a : Nat → Nat) (f : Nat → Int32) (r : Nat → Nat → Int32) {L D N c : Nat} {G B : Nat → Nat} (x : Int32) (sx : stX L D N c G B f r) : mG l wX yX1_weight cX1_weight 2 .int (rmK 2) DD dd h a f r [.int (x)] (fun v f' r' => (v = -1 ∧ ¬ cbIs N x ∨ ∃ g, g < N ∧ x = nI g ∧ v = nI (cbWeight L D (cbPos L D G B c) N g)) ∧ stX L D N c G B f' r') := by
  refine mG_start (by decide) (Nat.le_of_ble_eq_true rfl) ?_
  intro p ee s m args below meth cd AA Q ls C I hl ret
  have hx := C.1
  have hb := C.2.1
  have hl : lv_has ls 2 [(0, .ref h), (1, .int (x))] := hl
  have gm := sx.1
  obtain ⟨hL1, hL4, hD1, hD3, hN1, hN81, hNe⟩ := gm.1
  have hc8 := sx.2.1
  have hf5 := sx.2.2.1
  have hGB := sx.2.2.2.1
  have hbad := sx.2.2.2.2
  refine lv_aload_n hx hb dX1_weight_0 rfl (lv_at hl 0 rfl) ?_
  refine lv_iload_n hx hb dX1_weight_1 rfl (lv_at hl 1 rfl) ?_
  refine mG_call (q := (RX1, TX1, 18)) (ci := 0) C I (metX_badCode l DD dd h a f r x gm) ⟨_, rfl⟩ rfl cwX_XbadCode cdX_badCode ⟨Nat.le_of_ble_eq_true rfl, Nat.le_of_ble_eq_true rfl⟩ ⟨rfl, rfl⟩ rfl hl.1 (Nat.le_of_ble_eq_true rfl) dX1_weight_2 ⟨Nat.zero_le _, Nat.zero_le _⟩ rfl (fun v1 f1 r1 H locs hp1 I => ?_)
  obtain ⟨hqa, ef1, er1⟩ := hp1
  rw [ef1, er1] at I
  refine lv_if_eq (tgt := 10) hx hb dX1_weight_5 (by decide) (fun c5 => ?_) (fun c5 => ?_)
  · obtain ⟨g, hg, rfl⟩ : cbIs N x := by
      rcases hqa with ⟨q, -⟩ | ⟨-, q⟩
      · rw [q] at c5; exact absurd c5 (by decide)
      · exact q
    refine lv_aload_n hx hb dX1_weight_10 rfl (lv_at hl 0 rfl) ?_
    refine lv_iload_n hx hb dX1_weight_11 rfl (lv_at hl 1 rfl) ?_
    refine mGv_call (q := (RX1, TX1, 18)) (ci := 0) C I (metX_partBy l DD dd h a f r g sx hg) ⟨_, rfl⟩ rfl cwX_XpartBy cdX_partBy ⟨Nat.le_of_ble_eq_true rfl, Nat.le_of_ble_eq_true rfl⟩ ⟨rfl, rfl⟩ rfl hl.1 (Nat.le_of_ble_eq_true rfl) dX1_weight_12 ⟨Nat.zero_le _, Nat.zero_le _⟩ rfl (fun fP rP H locs hpP I => ?_)
    obtain ⟨w1, w2, w3, w4, w5⟩ := hpP
    have sxP : stX L D N c G B fP rP := sx.keep (fun k hk => w2 k (by omega) (by omega) (by omega)) (fun k hk => w1 k (by omega))
    refine lv_aload_n hx hb dX1_weight_15 rfl (lv_at hl 0 rfl) ?_
    refine gX_12 C I (v := nI (cbWeight L D (cbPos L D G B c) N g)) (w5) dX1_weight_16 ?_
    exact ret _ _ _ _ _ _ _ dX1_weight_19 (rfl) I (⟨Or.inr ⟨g, hg, rfl, rfl⟩, sxP⟩)
  · have hq : ¬ cbIs N x := by
      rcases hqa with ⟨-, q⟩ | ⟨q, -⟩
      · exact q
      · exact absurd q c5
    refine lv_iconst (v := -1) hx hb dX1_weight_8 (by decide) ?_
    exact ret _ _ _ _ _ _ _ dX1_weight_9 (rfl) I (⟨Or.inl ⟨rfl, hq⟩, sx⟩)
set_option maxHeartbeats 4000000 in
set_option maxRecDepth 100000 in
theorem metX_bestBy (l : Launch) (DD : va_G) (dd : ClassId) (h : Nat) (a : Nat → Nat) (f : Nat → Int32) (r : Nat → Nat → Int32) {L D N c : Nat} {G B : Nat → Nat} (w : Nat) (sx : stX L D N c G B f r) (hw : w ≤ 1) : mG l wX yX1_bestBy cX1_bestBy 6 .int (rmK 2) DD dd h a f r [.int (nI w)] (fun v f' r' => (v = -3 ∧ cbCnt (cbPos L D G B c) N = 0 ∨ v = nI (cbArg (cbRank L D (cbPos L D G B c) N w) N) ∧ 0 < cbCnt (cbPos L D G B c) N) ∧ stX L D N c G B f' r') := by
  refine mG_start (by decide) (Nat.le_of_ble_eq_true rfl) ?_
  intro p ee s m args below meth cd AA Q ls C I hl ret
  have hx := C.1
  have hb := C.2.1
  have hl : lv_has ls 6 [(0, .ref h), (1, .int (nI w))] := hl
  have gm := sx.1
  obtain ⟨hL1, hL4, hD1, hD3, hN1, hN81, hNe⟩ := gm.1
  have hc8 := sx.2.1
  have hf5 := sx.2.2.1
  have hGB := sx.2.2.2.1
  have hbad := sx.2.2.2.2
  obtain ⟨R, hR⟩ : ∃ R : Nat → Nat, R = cbRank L D (cbPos L D G B c) N w := ⟨_, rfl⟩
  refine lv_aload_n hx hb dX1_bestBy_0 rfl (lv_at hl 0 rfl) ?_
  refine mG_call (q := (RX1, TX1, 18)) (ci := 0) C I (metX_countPossible l DD dd h a f r sx) ⟨_, rfl⟩ rfl cwX_XcountPossible cdX_countPossible ⟨Nat.le_of_ble_eq_true rfl, Nat.le_of_ble_eq_true rfl⟩ ⟨rfl, rfl⟩ rfl hl.1 (Nat.le_of_ble_eq_true rfl) dX1_bestBy_1 ⟨Nat.zero_le _, Nat.zero_le _⟩ rfl (fun v1 f1 r1 H locs hp1 I => ?_)
  obtain ⟨ev1, ef1, er1⟩ := hp1
  subst ev1
  rw [ef1, er1] at I
  refine n_ifne (tgt := 10) hx hb (Nat.lt_of_le_of_lt (cbCnt_le _ _) (by omega)) dX1_bestBy_4 (by decide) (fun c4 => ?_) (fun c4 => ?_)
  · refine lv_bipush (v := -3) hx hb dX1_bestBy_10 (by decide) ?_
    refine lv_istore_n (lv' := [(2, .int (-3)), (0, .ref h), (1, .int (nI w))]) hx hb dX1_bestBy_12 rfl hl (by decide) rfl (fun ls hl => ?_)
    refine lv_ldc (v := 100000) hx hb C.2.2.2.1 (C.2.2.2.2.1 _ q166) dX1_bestBy_13 ?_
    refine w_top (v := nI (100000)) (by decide) ?_
    refine lv_istore_n (lv' := [(3, .int (nI 100000)), (2, .int (-3)), (0, .ref h), (1, .int (nI w))]) hx hb dX1_bestBy_15 rfl hl (by decide) rfl (fun ls hl => ?_)
    refine lv_iconst (v := nI 0) hx hb dX1_bestBy_16 (by decide) ?_
    refine lv_istore (lv' := [(4, .int (nI 0)), (3, .int (nI 100000)), (2, .int (-3)), (0, .ref h), (1, .int (nI w))]) hx hb dX1_bestBy_17 hl (by decide) rfl (fun ls hl => ?_)
    have loop19 : ∀ (n : Nat) (g : Nat) (bst : Int32) (lst : Nat) (fL : Nat → Int32) (rL : Nat → Nat → Int32) (H : Heap) (locs : List Loc) (ls : Array Slot), (N < g + n) → (g ≤ N) → ((g = 0 ∧ bst = -3 ∧ lst = 100000) ∨ (0 < g ∧ bst = nI (cbArg R g) ∧ lst = R (cbArg R g))) → (stX L D N c G B fL rL) → iG wX DD dd AA s.heap h a fL rL H locs → lv_has ls 6 [(0, .ref h), (1, .int (nI w)), (2, .int (bst)), (3, .int (nI lst)), (4, .int (nI g))] → W p l ee (rmK 2) s m args below meth cd H locs 0 0 Q (F0 m 19 ls []) := by
      intro n
      induction n with
      | zero =>
        intros; exfalso; omega
      | succ n ih =>
        intro g bst lst fL rL H locs ls h1 h2 h3 sxL I hl
        have hRg : R g < 100000 := by rw [hR]; exact cbRank_lt hD1 hL4 hN81 _ _ _
        have hlst : lst ≤ 100000 := by
          rcases h3 with ⟨-, -, q⟩ | ⟨-, -, q⟩
          · omega
          · rw [q, hR]; exact Nat.le_of_lt (cbRank_lt hD1 hL4 hN81 _ _ _)
        refine lv_iload hx hb dX1_bestBy_19 (lv_at hl 4 rfl) ?_
        refine lv_aload_n hx hb dX1_bestBy_21 rfl (lv_at hl 0 rfl) ?_
        refine gX_2 C I (v := nI (N)) (sxL.1.2.2.2.1) dX1_bestBy_22 ?_
        refine n_icge (tgt := 101) hx hb (by omega) (by omega) dX1_bestBy_25 (by decide) (fun c25 => ?_) (fun c25 => ?_)
        · refine lv_iload_n hx hb dX1_bestBy_101 rfl (lv_at hl 2 rfl) ?_
          exact ret _ _ _ _ _ _ _ dX1_bestBy_102 (rfl) I (by
            rcases h3 with ⟨q, -, -⟩ | ⟨-, q, -⟩
            · omega
            · have e : g = N := by omega
              refine ⟨Or.inr ⟨?_, by omega⟩, sxL⟩
              rw [q, e, hR])
        · refine lv_aload_n hx hb dX1_bestBy_28 rfl (lv_at hl 0 rfl) ?_
          refine lv_iload hx hb dX1_bestBy_29 (lv_at hl 4 rfl) ?_
          refine mGv_call (q := (RX1, TX1, 18)) (ci := 0) C I (metX_partBy l DD dd h a fL rL g sxL c25) ⟨_, rfl⟩ rfl cwX_XpartBy cdX_partBy ⟨Nat.le_of_ble_eq_true rfl, Nat.le_of_ble_eq_true rfl⟩ ⟨rfl, rfl⟩ rfl hl.1 (Nat.le_of_ble_eq_true rfl) dX1_bestBy_31 ⟨Nat.zero_le _, Nat.zero_le _⟩ rfl (fun fP rP H locs hpP I => ?_)
          obtain ⟨w1, w2, w3, w4, w5⟩ := hpP
          have sxP : stX L D N c G B fP rP := sxL.keep (fun k hk => w2 k (by omega) (by omega) (by omega)) (fun k hk => w1 k (by omega))
          refine lv_iconst (v := nI 2) hx hb dX1_bestBy_34 (by decide) ?_
          refine lv_iload_n hx hb dX1_bestBy_35 rfl (lv_at hl 1 rfl) ?_
          have join50 : W p l ee (rmK 2) s m args below meth cd H locs 0 0 Q (F0 m 50 ls [.int (nI (cbVal L D (cbPos L D G B c) N w g)), .int (nI 2)]) := by
            refine n_mul hx hb dX1_bestBy_50 ?_
            refine lv_aload_n hx hb dX1_bestBy_51 rfl (lv_at hl 0 rfl) ?_
            refine gX_8 C I dX1_bestBy_52 ?_
            refine lv_iload hx hb dX1_bestBy_55 (lv_at hl 4 rfl) ?_
            refine ldX_8 C I (g) (rfl) (by omega) (v := nI (cbBad L D G B c g)) (sxP.2.2.2.2 g c25) dX1_bestBy_57 ?_
            have join66 : W p l ee (rmK 2) s m args below meth cd H locs 0 0 Q (F0 m 66 ls [.int (nI (if (cbPos L D G B c) g then 0 else 1)), .int (nI (2 * (cbVal L D (cbPos L D G B c) N w g)))]) := by
              refine n_add hx hb dX1_bestBy_66 ?_
              refine w_top (v := nI (R g)) (by rw [hR]; rfl) ?_
              refine lv_istore (lv' := [(5, .int (nI (R g))), (0, .ref h), (1, .int (nI w)), (2, .int (bst)), (3, .int (nI lst)), (4, .int (nI g))]) hx hb dX1_bestBy_67 hl (by decide) rfl (fun ls hl => ?_)
              refine lv_iload hx hb dX1_bestBy_69 (lv_at hl 0 rfl) ?_
              refine lv_iload_n hx hb dX1_bestBy_71 rfl (lv_at hl 4 rfl) ?_
              have join81 : W p l ee (rmK 2) s m args below meth cd H locs 0 0 Q (F0 m 81 ls [.int (if R g < lst then nI g else bst)]) := by
                refine lv_istore_n (lv' := [(2, .int (if R g < lst then nI g else bst)), (5, .int (nI (R g))), (0, .ref h), (1, .int (nI w)), (3, .int (nI lst)), (4, .int (nI g))]) hx hb dX1_bestBy_81 rfl hl (by decide) rfl (fun ls hl => ?_)
                refine lv_iload hx hb dX1_bestBy_82 (lv_at hl 1 rfl) ?_
                refine lv_iload_n hx hb dX1_bestBy_84 rfl (lv_at hl 4 rfl) ?_
                have join94 : W p l ee (rmK 2) s m args below meth cd H locs 0 0 Q (F0 m 94 ls [.int (nI (if R g < lst then R g else lst))]) := by
                  refine lv_istore_n (lv' := [(3, .int (nI (if R g < lst then R g else lst))), (2, .int (if R g < lst then nI g else bst)), (5, .int (nI (R g))), (0, .ref h), (1, .int (nI w)), (4, .int (nI g))]) hx hb dX1_bestBy_94 rfl hl (by decide) rfl (fun ls hl => ?_)
                  refine lv_iinc (v := nI (g + 1)) (lv' := [(4, .int (nI (g + 1))), (3, .int (nI (if R g < lst then R g else lst))), (2, .int (if R g < lst then nI g else bst)), (5, .int (nI (R g))), (0, .ref h), (1, .int (nI w))]) hx hb dX1_bestBy_95 hl (k := 5) rfl (nI_1 _) (by decide) rfl (fun ls hl => ?_)
                  refine lv_goto (tgt := 19) hx hb dX1_bestBy_98 (by decide) ?_
                  exact ih (g + 1) _ _ _ _ _ _ _ (by omega) (by omega) (cbArg_stepX hRg h3) sxP I (lv_sub hl [4, 5, 2, 1, 0] rfl)
                refine n_icge (tgt := 93) hx hb (by omega) (by omega) dX1_bestBy_85 (by decide) (fun c85 => ?_) (fun c85 => ?_)
                · refine lv_iload_n hx hb dX1_bestBy_93 rfl (lv_at hl 4 rfl) ?_
                  refine w_top (v := nI (if R g < lst then R g else lst)) (by rw [if_neg (Nat.not_lt.mpr c85)]) ?_
                  exact join94
                · refine lv_iload hx hb dX1_bestBy_88 (lv_at hl 1 rfl) ?_
                  refine lv_goto (tgt := 94) hx hb dX1_bestBy_90 (by decide) ?_
                  refine w_top (v := nI (if R g < lst then R g else lst)) (by rw [if_pos c85]) ?_
                  exact join94
              refine n_icge (tgt := 80) hx hb (by omega) (by omega) dX1_bestBy_72 (by decide) (fun c72 => ?_) (fun c72 => ?_)
              · refine lv_iload_n hx hb dX1_bestBy_80 rfl (lv_at hl 3 rfl) ?_
                refine w_top (v := (if R g < lst then nI g else bst)) (by rw [if_neg (Nat.not_lt.mpr c72)]) ?_
                exact join81
              · refine lv_iload hx hb dX1_bestBy_75 (lv_at hl 5 rfl) ?_
                refine lv_goto (tgt := 81) hx hb dX1_bestBy_77 (by decide) ?_
                refine w_top (v := (if R g < lst then nI g else bst)) (by rw [if_pos c72]) ?_
                exact join81
            refine n_ifne (tgt := 65) hx hb (Nat.lt_of_le_of_lt (cbBad_le _ _ _ _ _ _) (by omega)) dX1_bestBy_58 (by decide) (fun c58 => ?_) (fun c58 => ?_)
            · refine lv_iconst (v := nI 1) hx hb dX1_bestBy_65 (by decide) ?_
              refine w_top (v := nI (if (cbPos L D G B c) g then 0 else 1)) (by rw [if_neg (by simp [cbPos, c58])]) ?_
              exact join66
            · refine lv_iconst (v := nI 0) hx hb dX1_bestBy_61 (by decide) ?_
              refine lv_goto (tgt := 66) hx hb dX1_bestBy_62 (by decide) ?_
              refine w_top (v := nI (if (cbPos L D G B c) g then 0 else 1)) (by rw [if_pos (by simp [cbPos, c58])]) ?_
              exact join66
          refine n_ifeq (tgt := 46) hx hb (by omega) dX1_bestBy_36 (by decide) (fun c36 => ?_) (fun c36 => ?_)
          · refine lv_aload_n hx hb dX1_bestBy_46 rfl (lv_at hl 0 rfl) ?_
            refine gX_11 C I (v := nI (cbWorst L D (cbPos L D G B c) N g)) (w4) dX1_bestBy_47 ?_
            refine w_top (v := nI (cbVal L D (cbPos L D G B c) N w g)) (congrArg nI (if_pos c36).symm) ?_
            exact join50
          · refine lv_aload_n hx hb dX1_bestBy_39 rfl (lv_at hl 0 rfl) ?_
            refine gX_12 C I (v := nI (cbWeight L D (cbPos L D G B c) N g)) (w5) dX1_bestBy_40 ?_
            refine lv_goto (tgt := 50) hx hb dX1_bestBy_43 (by decide) ?_
            refine w_top (v := nI (cbVal L D (cbPos L D G B c) N w g)) (congrArg nI (if_neg c36).symm) ?_
            exact join50
    exact loop19 (N + 1) 0 _ _ _ _ _ _ _ (by omega) (by omega) (Or.inl ⟨rfl, rfl, rfl⟩) sx I (lv_sub hl [3, 4, 2, 1, 0] rfl)
  · refine lv_bipush (v := -3) hx hb dX1_bestBy_7 (by decide) ?_
    exact ret _ _ _ _ _ _ _ dX1_bestBy_9 (rfl) I (⟨Or.inl ⟨rfl, c4⟩, sx⟩)
set_option maxHeartbeats 4000000 in
set_option maxRecDepth 100000 in
theorem metX_safest (l : Launch) (DD : va_G) (dd : ClassId) (h : Nat) (a : Nat → Nat) (f : Nat → Int32) (r : Nat → Nat → Int32) {L D N c : Nat} {G B : Nat → Nat} (sx : stX L D N c G B f r) : mG l wX yX1_safest cX1_safest 1 .int (rmK 3) DD dd h a f r [] (fun v f' r' => (v = -3 ∧ cbCnt (cbPos L D G B c) N = 0 ∨ v = nI (cbArg (cbRank L D (cbPos L D G B c) N 0) N) ∧ 0 < cbCnt (cbPos L D G B c) N) ∧ stX L D N c G B f' r') := by
  refine mG_start (by decide) (Nat.le_of_ble_eq_true rfl) ?_
  intro p ee s m args below meth cd AA Q ls C I hl ret
  have hx := C.1
  have hb := C.2.1
  have hl : lv_has ls 1 [(0, .ref h)] := hl
  refine lv_aload_n hx hb dX1_safest_0 rfl (lv_at hl 0 rfl) ?_
  refine lv_iconst (v := nI 0) hx hb dX1_safest_1 (by decide) ?_
  refine mG_call (q := (RX1, TX1, 18)) (ci := 0) C I (metX_bestBy l DD dd h a f r 0 sx (by decide)) ⟨_, rfl⟩ rfl cwX_XbestBy cdX_bestBy ⟨Nat.le_of_ble_eq_true rfl, Nat.le_of_ble_eq_true rfl⟩ ⟨rfl, rfl⟩ rfl hl.1 (Nat.le_of_ble_eq_true rfl) dX1_safest_2 ⟨Nat.zero_le _, Nat.zero_le _⟩ rfl (fun vZ fZ rZ H locs hpZ I => ?_)
  exact ret _ _ _ _ _ _ _ dX1_safest_5 (rfl) I (hpZ)
set_option maxHeartbeats 4000000 in
set_option maxRecDepth 100000 in
theorem metX_sharpest (l : Launch) (DD : va_G) (dd : ClassId) (h : Nat) (a : Nat → Nat) (f : Nat → Int32) (r : Nat → Nat → Int32) {L D N c : Nat} {G B : Nat → Nat} (sx : stX L D N c G B f r) : mG l wX yX1_sharpest cX1_sharpest 1 .int (rmK 3) DD dd h a f r [] (fun v f' r' => (v = -3 ∧ cbCnt (cbPos L D G B c) N = 0 ∨ v = nI (cbArg (cbRank L D (cbPos L D G B c) N 1) N) ∧ 0 < cbCnt (cbPos L D G B c) N) ∧ stX L D N c G B f' r') := by
  refine mG_start (by decide) (Nat.le_of_ble_eq_true rfl) ?_
  intro p ee s m args below meth cd AA Q ls C I hl ret
  have hx := C.1
  have hb := C.2.1
  have hl : lv_has ls 1 [(0, .ref h)] := hl
  refine lv_aload_n hx hb dX1_sharpest_0 rfl (lv_at hl 0 rfl) ?_
  refine lv_iconst (v := nI 1) hx hb dX1_sharpest_1 (by decide) ?_
  refine mG_call (q := (RX1, TX1, 18)) (ci := 0) C I (metX_bestBy l DD dd h a f r 1 sx (by decide)) ⟨_, rfl⟩ rfl cwX_XbestBy cdX_bestBy ⟨Nat.le_of_ble_eq_true rfl, Nat.le_of_ble_eq_true rfl⟩ ⟨rfl, rfl⟩ rfl hl.1 (Nat.le_of_ble_eq_true rfl) dX1_sharpest_2 ⟨Nat.zero_le _, Nat.zero_le _⟩ rfl (fun vZ fZ rZ H locs hpZ I => ?_)
  exact ret _ _ _ _ _ _ _ dX1_sharpest_5 (rfl) I (hpZ)
set_option maxHeartbeats 4000000 in
set_option maxRecDepth 100000 in
theorem metX_useful (l : Launch) (DD : va_G) (dd : ClassId) (h : Nat) (a : Nat → Nat) (f : Nat → Int32) (r : Nat → Nat → Int32) {L D N c : Nat} {G B : Nat → Nat} (sx : stX L D N c G B f r) : mG l wX yX1_useful cX1_useful 6 .int (rmK 1) DD dd h a f r [] (fun v f' r' => v = nI (cbUse L D G B c N) ∧ f' = f ∧ r' = r) := by
  refine mG_start (by decide) (Nat.le_of_ble_eq_true rfl) ?_
  intro p ee s m args below meth cd AA Q ls C I hl ret
  have hx := C.1
  have hb := C.2.1
  have hl : lv_has ls 6 [(0, .ref h)] := hl
  have gm := sx.1
  obtain ⟨hL1, hL4, hD1, hD3, hN1, hN81, hNe⟩ := gm.1
  have hc8 := sx.2.1
  have hf5 := sx.2.2.1
  have hGB := sx.2.2.2.1
  have hbad := sx.2.2.2.2
  obtain ⟨Z, hZ⟩ : ∃ Z : Nat → Bool, Z = (fun k => cbAny (cbSole L D G B c k) N) := ⟨_, rfl⟩
  refine lv_iconst (v := nI 0) hx hb dX1_useful_0 (by decide) ?_
  refine lv_istore_n (lv' := [(1, .int (nI 0)), (0, .ref h)]) hx hb dX1_useful_1 rfl hl (by decide) rfl (fun ls hl => ?_)
  refine lv_iconst (v := nI 0) hx hb dX1_useful_2 (by decide) ?_
  refine lv_istore_n (lv' := [(2, .int (nI 0)), (1, .int (nI 0)), (0, .ref h)]) hx hb dX1_useful_3 rfl hl (by decide) rfl (fun ls hl => ?_)
  have loop4 : ∀ (n : Nat) (k : Nat) (H : Heap) (locs : List Loc) (ls : Array Slot), (c < k + n) → (k ≤ c) → iG wX DD dd AA s.heap h a f r H locs → lv_has ls 6 [(0, .ref h), (1, .int (nI (cbCnt Z k))), (2, .int (nI k))] → W p l ee (rmK 1) s m args below meth cd H locs 0 0 Q (F0 m 4 ls []) := by
    intro n
    induction n with
    | zero =>
      intros; exfalso; omega
    | succ n ih =>
      intro k H locs ls h1 h2 I hl
      refine lv_iload_n hx hb dX1_useful_4 rfl (lv_at hl 2 rfl) ?_
      refine lv_aload_n hx hb dX1_useful_5 rfl (lv_at hl 0 rfl) ?_
      refine gX_5 C I (v := nI (c)) (hf5) dX1_useful_6 ?_
      refine n_icge (tgt := 96) hx hb (by omega) (by omega) dX1_useful_9 (by decide) (fun c9 => ?_) (fun c9 => ?_)
      · have e5 : c = k := by omega
        subst e5
        refine lv_iload_n hx hb dX1_useful_96 rfl (lv_at hl 1 rfl) ?_
        exact ret _ _ _ _ _ _ _ dX1_useful_97 (rfl) I (⟨by rw [hZ]; rfl, rfl, rfl⟩)
      · obtain ⟨hgk, hg6, hb44, hb7⟩ := hGB k c9
        have hZk : cbCnt Z k ≤ k := cbCnt_le _ _
        refine lv_iconst (v := nI 0) hx hb dX1_useful_12 (by decide) ?_
        refine lv_istore_n (lv' := [(3, .int (nI 0)), (0, .ref h), (1, .int (nI (cbCnt Z k))), (2, .int (nI k))]) hx hb dX1_useful_13 rfl hl (by decide) rfl (fun ls hl => ?_)
        refine lv_iconst (v := nI 0) hx hb dX1_useful_14 (by decide) ?_
        refine lv_istore (lv' := [(4, .int (nI 0)), (3, .int (nI 0)), (0, .ref h), (1, .int (nI (cbCnt Z k))), (2, .int (nI k))]) hx hb dX1_useful_15 hl (by decide) rfl (fun ls hl => ?_)
        have loop17 : ∀ (n2 : Nat) (x : Nat) (H : Heap) (locs : List Loc) (ls : Array Slot), (N < x + n2) → (x ≤ N) → iG wX DD dd AA s.heap h a f r H locs → lv_has ls 6 [(0, .ref h), (1, .int (nI (cbCnt Z k))), (2, .int (nI k)), (3, .int (nI ((cbAny (cbSole L D G B c k) x).toNat))), (4, .int (nI x))] → W p l ee (rmK 1) s m args below meth cd H locs 0 0 Q (F0 m 17 ls []) := by
          intro n2
          induction n2 with
          | zero =>
            intros; exfalso; omega
          | succ n2 ih2 =>
            intro x H locs ls h3 h4 I hl
            refine lv_iload hx hb dX1_useful_17 (lv_at hl 4 rfl) ?_
            refine lv_aload_n hx hb dX1_useful_19 rfl (lv_at hl 0 rfl) ?_
            refine gX_2 C I (v := nI (N)) (gm.2.2.2.1) dX1_useful_20 ?_
            refine n_icge (tgt := 78) hx hb (by omega) (by omega) dX1_useful_23 (by decide) (fun c23 => ?_) (fun c23 => ?_)
            · have e6 : N = x := by omega
              subst e6
              refine lv_iload_n hx hb dX1_useful_78 rfl (lv_at hl 3 rfl) ?_
              have join89 : W p l ee (rmK 1) s m args below meth cd H locs 0 0 Q (F0 m 89 ls [.int (nI (cbCnt Z (k + 1)))]) := by
                refine lv_istore_n (lv' := [(1, .int (nI (cbCnt Z (k + 1)))), (0, .ref h), (2, .int (nI k)), (3, .int (nI ((cbAny (cbSole L D G B c k) N).toNat))), (4, .int (nI N))]) hx hb dX1_useful_89 rfl hl (by decide) rfl (fun ls hl => ?_)
                refine lv_iinc (v := nI (k + 1)) (lv' := [(2, .int (nI (k + 1))), (1, .int (nI (cbCnt Z (k + 1)))), (0, .ref h), (3, .int (nI ((cbAny (cbSole L D G B c k) N).toNat))), (4, .int (nI N))]) hx hb dX1_useful_90 hl (k := 2) rfl (nI_1 _) (by decide) rfl (fun ls hl => ?_)
                refine lv_goto (tgt := 4) hx hb dX1_useful_93 (by decide) ?_
                exact ih (k + 1) _ _ _ (by omega) (by omega) I (lv_sub hl [2, 1, 0] rfl)
              refine n_ifeq (tgt := 88) hx hb (Nat.lt_of_le_of_lt (Bool.toNat_le _) (by decide)) dX1_useful_79 (by decide) (fun c79 => ?_) (fun c79 => ?_)
              · refine lv_iload_n hx hb dX1_useful_88 rfl (lv_at hl 1 rfl) ?_
                refine w_top (v := nI (cbCnt Z (k + 1))) (by rw [cbCnt_f (by rw [hZ]; cases hc : cbAny (cbSole L D G B c k) N <;> simp_all)]) ?_
                exact join89
              · refine lv_iload_n hx hb dX1_useful_82 rfl (lv_at hl 1 rfl) ?_
                refine lv_iconst (v := nI 1) hx hb dX1_useful_83 (by decide) ?_
                refine n_add hx hb dX1_useful_84 ?_
                refine lv_goto (tgt := 89) hx hb dX1_useful_85 (by decide) ?_
                refine w_top (v := nI (cbCnt Z (k + 1))) (by rw [cbCnt_t (by rw [hZ]; cases hc : cbAny (cbSole L D G B c k) N <;> simp_all)]) ?_
                exact join89
            · refine lv_aload_n hx hb dX1_useful_26 rfl (lv_at hl 0 rfl) ?_
              refine lv_aload_n hx hb dX1_useful_27 rfl (lv_at hl 0 rfl) ?_
              refine gX_6 C I dX1_useful_28 ?_
              refine lv_iload_n hx hb dX1_useful_31 rfl (lv_at hl 2 rfl) ?_
              refine ldX_6 C I (k) (rfl) (by omega) (v := nI (G k)) (hg6) dX1_useful_32 ?_
              refine lv_iload hx hb dX1_useful_33 (lv_at hl 4 rfl) ?_
              refine mG_call (q := (RX1, TX1, 18)) (ci := 0) C I (metX_answerTo l DD dd h a f r (G k) x gm hgk c23) ⟨_, rfl⟩ rfl cwX_XanswerTo cdX_answerTo ⟨Nat.le_of_ble_eq_true rfl, Nat.le_of_ble_eq_true rfl⟩ ⟨rfl, rfl⟩ rfl hl.1 (Nat.le_of_ble_eq_true rfl) dX1_useful_35 ⟨Nat.zero_le _, Nat.zero_le _⟩ rfl (fun v1 f1 r1 H locs hp1 I => ?_)
              obtain ⟨ev1, ef1, er1⟩ := hp1
              subst ev1
              rw [ef1, er1] at I
              refine lv_istore (lv' := [(5, .int (nI (cbAns L D (G k) x))), (0, .ref h), (1, .int (nI (cbCnt Z k))), (2, .int (nI k)), (3, .int (nI ((cbAny (cbSole L D G B c k) x).toNat))), (4, .int (nI x))]) hx hb dX1_useful_38 hl (by decide) rfl (fun ls hl => ?_)
              refine lv_iload_n hx hb dX1_useful_40 rfl (lv_at hl 4 rfl) ?_
              have join71 : W p l ee (rmK 1) s m args below meth cd H locs 0 0 Q (F0 m 71 ls [.int (nI ((cbAny (cbSole L D G B c k) (x + 1)).toNat))]) := by
                refine lv_istore_n (lv' := [(3, .int (nI ((cbAny (cbSole L D G B c k) (x + 1)).toNat))), (5, .int (nI (cbAns L D (G k) x))), (0, .ref h), (1, .int (nI (cbCnt Z k))), (2, .int (nI k)), (4, .int (nI x))]) hx hb dX1_useful_71 rfl hl (by decide) rfl (fun ls hl => ?_)
                refine lv_iinc (v := nI (x + 1)) (lv' := [(4, .int (nI (x + 1))), (3, .int (nI ((cbAny (cbSole L D G B c k) (x + 1)).toNat))), (5, .int (nI (cbAns L D (G k) x))), (0, .ref h), (1, .int (nI (cbCnt Z k))), (2, .int (nI k))]) hx hb dX1_useful_72 hl (k := 5) rfl (nI_1 _) (by decide) rfl (fun ls hl => ?_)
                refine lv_goto (tgt := 17) hx hb dX1_useful_75 (by decide) ?_
                exact ih2 (x + 1) _ _ _ (by omega) (by omega) I (lv_sub hl [3, 4, 5, 1, 0] rfl)
              refine n_ifne (tgt := 66) hx hb (Nat.lt_of_le_of_lt (Bool.toNat_le _) (by decide)) dX1_useful_41 (by decide) (fun c41 => ?_) (fun c41 => ?_)
              · refine lv_iconst (v := nI 1) hx hb dX1_useful_66 (by decide) ?_
                refine lv_goto (tgt := 71) hx hb dX1_useful_67 (by decide) ?_
                refine w_top (v := nI ((cbAny (cbSole L D G B c k) (x + 1)).toNat)) (by rw [cbAny_l (by cases hc : cbAny (cbSole L D G B c k) x <;> simp_all)]; rfl) ?_
                exact join71
              · refine lv_aload_n hx hb dX1_useful_44 rfl (lv_at hl 1 rfl) ?_
                refine gX_8 C I dX1_useful_45 ?_
                refine lv_iload hx hb dX1_useful_48 (lv_at hl 5 rfl) ?_
                refine ldX_8 C I (x) (rfl) (by omega) (v := nI (cbBad L D G B c x)) (hbad x c23) dX1_useful_50 ?_
                refine lv_iconst (v := nI 1) hx hb dX1_useful_51 (by decide) ?_
                refine n_icne (tgt := 70) hx hb (Nat.lt_of_le_of_lt (cbBad_le _ _ _ _ _ _) (by omega)) (by omega) dX1_useful_52 (by decide) (fun c52 => ?_) (fun c52 => ?_)
                · refine lv_iconst (v := nI 0) hx hb dX1_useful_70 (by decide) ?_
                  refine w_top (v := nI ((cbAny (cbSole L D G B c k) (x + 1)).toNat)) (by rw [cbAny_0 (by cases hc : cbAny (cbSole L D G B c k) x <;> simp_all) (by simp [cbSole, c52])]; rfl) ?_
                  exact join71
                · refine lv_iload hx hb dX1_useful_55 (lv_at hl 0 rfl) ?_
                  refine lv_aload_n hx hb dX1_useful_57 rfl (lv_at hl 1 rfl) ?_
                  refine gX_7 C I dX1_useful_58 ?_
                  refine lv_iload_n hx hb dX1_useful_61 rfl (lv_at hl 3 rfl) ?_
                  refine ldX_7 C I (k) (rfl) (by omega) (v := nI (B k)) (hb7) dX1_useful_62 ?_
                  refine n_iceq (tgt := 70) hx hb (Nat.lt_trans (cbAns_lt hD1 hL4 _ _) (by decide)) (by omega) dX1_useful_63 (by decide) (fun c63 => ?_) (fun c63 => ?_)
                  · refine lv_iconst (v := nI 0) hx hb dX1_useful_70 (by decide) ?_
                    refine w_top (v := nI ((cbAny (cbSole L D G B c k) (x + 1)).toNat)) (by rw [cbAny_0 (by cases hc : cbAny (cbSole L D G B c k) x <;> simp_all) (by simp [cbSole, c63])]; rfl) ?_
                    exact join71
                  · refine lv_iconst (v := nI 1) hx hb dX1_useful_66 (by decide) ?_
                    refine lv_goto (tgt := 71) hx hb dX1_useful_67 (by decide) ?_
                    refine w_top (v := nI ((cbAny (cbSole L D G B c k) (x + 1)).toNat)) (by rw [cbAny_r (by simp [cbSole, c52, c63])]; rfl) ?_
                    exact join71
        exact loop17 (N + 1) 0 _ _ _ (by omega) (by omega) I (lv_sub hl [2, 3, 4, 1, 0] rfl)
  exact loop4 (c + 1) 0 _ _ _ (by omega) (by omega) I (lv_sub hl [2, 1, 0] rfl)
end
section
set_option maxRecDepth 100000
set_option maxHeartbeats 4000000 in
set_option maxRecDepth 100000 in
theorem metX_listFew (l : Launch) (DD : va_G) (dd : ClassId) (h : Nat) (a : Nat → Nat) (f : Nat → Int32) (r : Nat → Nat → Int32) {L D N c : Nat} {G B : Nat → Nat} (sx : stX L D N c G B f r) (hcnt : cbCnt (cbPos L D G B c) N ≤ 8) : mGv l wX yX1_listFew cX1_listFew 3 (rmK 1) DD dd h a f r [] (fun f' r' => (∀ k, k ≠ 13 → f' k = f k) ∧ (∀ j, j ≠ 14 → j ≠ 15 → r' j = r j) ∧ f' 13 = nI (cbCnt (cbPos L D G B c) N) ∧ (∀ k, k < cbCnt (cbPos L D G B c) N → r' 14 k = nI (cbSel (cbPos L D G B c) N k)) ∧ ∀ g k, g < N → k < cbCnt (cbPos L D G B c) N → r' 15 (8 * g + k) = nI (cbAns L D g (cbSel (cbPos L D G B c) N k))) := by
  refine mGv_start (by decide) (Nat.le_of_ble_eq_true rfl) ?_
  intro p ee s m args below meth cd AA Q ls C I hl ret
  have hx := C.1
  have hb := C.2.1
  have hl : lv_has ls 3 [(0, .ref h)] := hl
  have gm := sx.1
  obtain ⟨hL1, hL4, hD1, hD3, hN1, hN81, hNe⟩ := gm.1
  have hc8 := sx.2.1
  have hf5 := sx.2.2.1
  have hGB := sx.2.2.2.1
  have hbad := sx.2.2.2.2
  obtain ⟨P, hP⟩ : ∃ P, P = cbPos L D G B c := ⟨_, rfl⟩
  obtain ⟨F, hF⟩ : ∃ F, F = cbCnt P N := ⟨_, rfl⟩
  rw [← hP, ← hF] at hcnt
  refine lv_aload_n hx hb dX1_listFew_0 rfl (lv_at hl 0 rfl) ?_
  refine lv_iconst (v := nI 0) hx hb dX1_listFew_1 (by decide) ?_
  refine pX_13 C I dX1_listFew_2 (fun H locs f0 ef0 of0 I => ?_)
  refine lv_iconst (v := nI 0) hx hb dX1_listFew_5 (by decide) ?_
  refine lv_istore_n (lv' := [(1, .int (nI 0)), (0, .ref h)]) hx hb dX1_listFew_6 rfl hl (by decide) rfl (fun ls hl => ?_)
  have loop7 : ∀ (n : Nat) (x : Nat) (fL : Nat → Int32) (rL : Nat → Nat → Int32) (H : Heap) (locs : List Loc) (ls : Array Slot), (N < x + n) → (x ≤ N) → (∀ k, k ≠ 13 → fL k = f k) → (fL 13 = nI (cbCnt P x)) → (∀ j, j ≠ 14 → rL j = r j) → (∀ k, k < cbCnt P x → rL 14 k = nI (cbSel P x k)) → iG wX DD dd AA s.heap h a fL rL H locs → lv_has ls 3 [(0, .ref h), (1, .int (nI x))] → W p l ee (rmK 1) s m args below meth cd H locs 0 0 Q (F0 m 7 ls []) := by
    intro n
    induction n with
    | zero =>
      intros; exfalso; omega
    | succ n ih =>
      intro x fL rL H locs ls h1 h2 hfL h13 hrL h14 I hl
      have hcx : cbCnt P x ≤ F := by rw [hF]; exact cbCnt_mono P h2
      refine lv_iload_n hx hb dX1_listFew_7 rfl (lv_at hl 1 rfl) ?_
      refine lv_aload_n hx hb dX1_listFew_8 rfl (lv_at hl 0 rfl) ?_
      refine gX_2 C I (v := nI (N)) ((hfL 2 (by decide)).trans gm.2.2.2.1) dX1_listFew_9 ?_
      refine n_icge (tgt := 59) hx hb (by omega) (by omega) dX1_listFew_12 (by decide) (fun c12 => ?_) (fun c12 => ?_)
      · have hB : fL 13 = nI F := by rw [h13, hF, show x = N by omega]
        have hA : ∀ k, k < F → rL 14 k = nI (cbSel P N k) := fun k hk => by
          have e : x = N := by omega
          rw [e] at h14
          exact h14 k (by rw [← hF]; exact hk)
        clear ih h1 h2 c12
        refine lv_iconst (v := nI 0) hx hb dX1_listFew_59 (by decide) ?_
        refine lv_istore_n (lv' := [(1, .int (nI 0)), (0, .ref h)]) hx hb dX1_listFew_60 rfl hl (by decide) rfl (fun ls hl => ?_)
        have loop61 : ∀ (n2 : Nat) (g : Nat) (rG : Nat → Nat → Int32) (H : Heap) (locs : List Loc) (ls : Array Slot), (N < g + n2) → (g ≤ N) → (∀ j, j ≠ 15 → rG j = rL j) → (∀ y k, y < g → k < F → rG 15 (8 * y + k) = nI (cbAns L D y (cbSel P N k))) → iG wX DD dd AA s.heap h a fL rG H locs → lv_has ls 3 [(0, .ref h), (1, .int (nI g))] → W p l ee (rmK 1) s m args below meth cd H locs 0 0 Q (F0 m 61 ls []) := by
          intro n2
          induction n2 with
          | zero =>
            intros; exfalso; omega
          | succ n2 ih2 =>
            intro g rG H locs ls h3 h4 hrG hyG I hl
            refine lv_iload_n hx hb dX1_listFew_61 rfl (lv_at hl 1 rfl) ?_
            refine lv_aload_n hx hb dX1_listFew_62 rfl (lv_at hl 0 rfl) ?_
            refine gX_2 C I (v := nI (N)) ((hfL 2 (by decide)).trans gm.2.2.2.1) dX1_listFew_63 ?_
            refine n_icge (tgt := 113) hx hb (by omega) (by omega) dX1_listFew_66 (by decide) (fun c66 => ?_) (fun c66 => ?_)
            · exact ret _ _ _ _ _ _ dX1_listFew_113 I (by
                subst hP
                subst hF
                exact ⟨hfL, fun j j1 j2 => (hrG j j2).trans (hrL j j1), hB, fun k hk => by rw [hrG 14 (by decide)]; exact hA k hk, fun g1 k hg hk => hyG g1 k (by omega) hk⟩)
            · refine lv_iconst (v := nI 0) hx hb dX1_listFew_69 (by decide) ?_
              refine lv_istore_n (lv' := [(2, .int (nI 0)), (0, .ref h), (1, .int (nI g))]) hx hb dX1_listFew_70 rfl hl (by decide) rfl (fun ls hl => ?_)
              have loop71 : ∀ (n3 : Nat) (k : Nat) (rK : Nat → Nat → Int32) (H : Heap) (locs : List Loc) (ls : Array Slot), (F < k + n3) → (k ≤ F) → (∀ j, j ≠ 15 → rK j = rL j) → (∀ y k1, (y < g ∧ k1 < F ∨ y = g ∧ k1 < k) → rK 15 (8 * y + k1) = nI (cbAns L D y (cbSel P N k1))) → iG wX DD dd AA s.heap h a fL rK H locs → lv_has ls 3 [(0, .ref h), (1, .int (nI g)), (2, .int (nI k))] → W p l ee (rmK 1) s m args below meth cd H locs 0 0 Q (F0 m 71 ls []) := by
                intro n3
                induction n3 with
                | zero =>
                  intros; exfalso; omega
                | succ n3 ih3 =>
                  intro k rK H locs ls h5 h6 hrK hyK I hl
                  have gmK : geoX L D N fL rK := gm.keep (fun k hk => hfL k (by omega)) (fun j hj => by rw [hrK j (by omega), hrL j (by omega)])
                  refine lv_iload_n hx hb dX1_listFew_71 rfl (lv_at hl 2 rfl) ?_
                  refine lv_aload_n hx hb dX1_listFew_72 rfl (lv_at hl 0 rfl) ?_
                  refine gX_13 C I (v := nI (F)) (hB) dX1_listFew_73 ?_
                  refine n_icge (tgt := 107) hx hb (by omega) (by omega) dX1_listFew_76 (by decide) (fun c76 => ?_) (fun c76 => ?_)
                  · refine lv_iinc (v := nI (g + 1)) (lv' := [(1, .int (nI (g + 1))), (0, .ref h), (2, .int (nI k))]) hx hb dX1_listFew_107 hl (k := 1) rfl (nI_1 _) (by decide) rfl (fun ls hl => ?_)
                    refine lv_goto (tgt := 61) hx hb dX1_listFew_110 (by decide) ?_
                    exact ih2 (g + 1) _ _ _ _ (by omega) (by omega) hrK (fun y k1 hy1 hk1 => hyK y k1 (by omega)) I (lv_sub hl [1, 0] rfl)
                  · refine lv_aload_n hx hb dX1_listFew_79 rfl (lv_at hl 0 rfl) ?_
                    refine gX_15 C I dX1_listFew_80 ?_
                    refine lv_bipush (v := nI 8) hx hb dX1_listFew_83 (by decide) ?_
                    refine lv_iload_n hx hb dX1_listFew_85 rfl (lv_at hl 1 rfl) ?_
                    refine n_mul hx hb dX1_listFew_86 ?_
                    refine lv_iload_n hx hb dX1_listFew_87 rfl (lv_at hl 2 rfl) ?_
                    refine n_add hx hb dX1_listFew_88 ?_
                    refine lv_aload_n hx hb dX1_listFew_89 rfl (lv_at hl 0 rfl) ?_
                    refine lv_iload_n hx hb dX1_listFew_90 rfl (lv_at hl 1 rfl) ?_
                    refine lv_aload_n hx hb dX1_listFew_91 rfl (lv_at hl 0 rfl) ?_
                    refine gX_14 C I dX1_listFew_92 ?_
                    refine lv_iload_n hx hb dX1_listFew_95 rfl (lv_at hl 2 rfl) ?_
                    refine ldX_14 C I (k) (rfl) (by omega) (v := nI (cbSel P N k)) (by rw [hrK 14 (by decide)]; exact hA k c76) dX1_listFew_96 ?_
                    refine mG_call (q := (RX1, TX1, 18)) (ci := 0) C I (metX_answerTo l DD dd h a fL rK g (cbSel P N k) gmK c66 (cbSel_lt (by rw [← hF]; exact c76))) ⟨_, rfl⟩ rfl cwX_XanswerTo cdX_answerTo ⟨Nat.le_of_ble_eq_true rfl, Nat.le_of_ble_eq_true rfl⟩ ⟨rfl, rfl⟩ rfl hl.1 (Nat.le_of_ble_eq_true rfl) dX1_listFew_97 ⟨Nat.zero_le _, Nat.zero_le _⟩ rfl (fun v1 f1 r1 H locs hp1 I => ?_)
                    obtain ⟨ev1, ef1, er1⟩ := hp1
                    subst ev1
                    rw [ef1, er1] at I
                    refine stX_15 C I ((8 * g) + k) (rfl) (by omega) dX1_listFew_100 (fun H locs rC erC orC I => ?_)
                    refine lv_iinc (v := nI (k + 1)) (lv' := [(2, .int (nI (k + 1))), (0, .ref h), (1, .int (nI g))]) hx hb dX1_listFew_101 hl (k := 2) rfl (nI_1 _) (by decide) rfl (fun ls hl => ?_)
                    refine lv_goto (tgt := 71) hx hb dX1_listFew_104 (by decide) ?_
                    refine ih3 (k + 1) _ _ _ _ (by omega) (by omega) (fun j hj => (orC j hj).trans (hrK j hj)) ?_ I (lv_sub hl [1, 2, 0] rfl)
                    intro y k1 hh
                    rw [erC]
                    by_cases he : 8 * y + k1 = 8 * g + k
                    · obtain ⟨e1, e2⟩ : y = g ∧ k1 = k := by omega
                      subst e1; subst e2
                      rw [pk_us]
                    · rw [pk_un he]; exact hyK y k1 (by omega)
              exact loop71 (F + 1) 0 _ _ _ _ (by omega) (by omega) hrG (fun y k1 hh => hyG y k1 (by omega) (by omega)) I (lv_sub hl [1, 2, 0] rfl)
        exact loop61 (N + 1) 0 _ _ _ _ (by omega) (by omega) (fun _ _ => rfl) (fun y k1 hy1 _ => absurd hy1 (Nat.not_lt_zero y)) I (lv_sub hl [1, 0] rfl)
      · refine lv_aload_n hx hb dX1_listFew_15 rfl (lv_at hl 0 rfl) ?_
        refine gX_13 C I (v := nI (cbCnt P x)) (h13) dX1_listFew_16 ?_
        refine lv_bipush (v := nI 8) hx hb dX1_listFew_19 (by decide) ?_
        refine n_icge (tgt := 59) hx hb (by omega) (by omega) dX1_listFew_21 (by decide) (fun c21 => ?_) (fun c21 => ?_)
        · have hFx : F = cbCnt P x := by omega
          have hB : fL 13 = nI F := by rw [h13, hFx]
          have hA : ∀ k, k < F → rL 14 k = nI (cbSel P N k) := fun k hk => by
            rw [hFx] at hk
            rw [h14 k hk, cbSel_keep P hk h2]
          clear ih h1 c12
          refine lv_iconst (v := nI 0) hx hb dX1_listFew_59 (by decide) ?_
          refine lv_istore_n (lv' := [(1, .int (nI 0)), (0, .ref h)]) hx hb dX1_listFew_60 rfl hl (by decide) rfl (fun ls hl => ?_)
          have loop61 : ∀ (n2 : Nat) (g : Nat) (rG : Nat → Nat → Int32) (H : Heap) (locs : List Loc) (ls : Array Slot), (N < g + n2) → (g ≤ N) → (∀ j, j ≠ 15 → rG j = rL j) → (∀ y k, y < g → k < F → rG 15 (8 * y + k) = nI (cbAns L D y (cbSel P N k))) → iG wX DD dd AA s.heap h a fL rG H locs → lv_has ls 3 [(0, .ref h), (1, .int (nI g))] → W p l ee (rmK 1) s m args below meth cd H locs 0 0 Q (F0 m 61 ls []) := by
            intro n2
            induction n2 with
            | zero =>
              intros; exfalso; omega
            | succ n2 ih2 =>
              intro g rG H locs ls h3 h4 hrG hyG I hl
              refine lv_iload_n hx hb dX1_listFew_61 rfl (lv_at hl 1 rfl) ?_
              refine lv_aload_n hx hb dX1_listFew_62 rfl (lv_at hl 0 rfl) ?_
              refine gX_2 C I (v := nI (N)) ((hfL 2 (by decide)).trans gm.2.2.2.1) dX1_listFew_63 ?_
              refine n_icge (tgt := 113) hx hb (by omega) (by omega) dX1_listFew_66 (by decide) (fun c66 => ?_) (fun c66 => ?_)
              · exact ret _ _ _ _ _ _ dX1_listFew_113 I (by
                  subst hP
                  subst hF
                  exact ⟨hfL, fun j j1 j2 => (hrG j j2).trans (hrL j j1), hB, fun k hk => by rw [hrG 14 (by decide)]; exact hA k hk, fun g1 k hg hk => hyG g1 k (by omega) hk⟩)
              · refine lv_iconst (v := nI 0) hx hb dX1_listFew_69 (by decide) ?_
                refine lv_istore_n (lv' := [(2, .int (nI 0)), (0, .ref h), (1, .int (nI g))]) hx hb dX1_listFew_70 rfl hl (by decide) rfl (fun ls hl => ?_)
                have loop71 : ∀ (n3 : Nat) (k : Nat) (rK : Nat → Nat → Int32) (H : Heap) (locs : List Loc) (ls : Array Slot), (F < k + n3) → (k ≤ F) → (∀ j, j ≠ 15 → rK j = rL j) → (∀ y k1, (y < g ∧ k1 < F ∨ y = g ∧ k1 < k) → rK 15 (8 * y + k1) = nI (cbAns L D y (cbSel P N k1))) → iG wX DD dd AA s.heap h a fL rK H locs → lv_has ls 3 [(0, .ref h), (1, .int (nI g)), (2, .int (nI k))] → W p l ee (rmK 1) s m args below meth cd H locs 0 0 Q (F0 m 71 ls []) := by
                  intro n3
                  induction n3 with
                  | zero =>
                    intros; exfalso; omega
                  | succ n3 ih3 =>
                    intro k rK H locs ls h5 h6 hrK hyK I hl
                    have gmK : geoX L D N fL rK := gm.keep (fun k hk => hfL k (by omega)) (fun j hj => by rw [hrK j (by omega), hrL j (by omega)])
                    refine lv_iload_n hx hb dX1_listFew_71 rfl (lv_at hl 2 rfl) ?_
                    refine lv_aload_n hx hb dX1_listFew_72 rfl (lv_at hl 0 rfl) ?_
                    refine gX_13 C I (v := nI (F)) (hB) dX1_listFew_73 ?_
                    refine n_icge (tgt := 107) hx hb (by omega) (by omega) dX1_listFew_76 (by decide) (fun c76 => ?_) (fun c76 => ?_)
                    · refine lv_iinc (v := nI (g + 1)) (lv' := [(1, .int (nI (g + 1))), (0, .ref h), (2, .int (nI k))]) hx hb dX1_listFew_107 hl (k := 1) rfl (nI_1 _) (by decide) rfl (fun ls hl => ?_)
                      refine lv_goto (tgt := 61) hx hb dX1_listFew_110 (by decide) ?_
                      exact ih2 (g + 1) _ _ _ _ (by omega) (by omega) hrK (fun y k1 hy1 hk1 => hyK y k1 (by omega)) I (lv_sub hl [1, 0] rfl)
                    · refine lv_aload_n hx hb dX1_listFew_79 rfl (lv_at hl 0 rfl) ?_
                      refine gX_15 C I dX1_listFew_80 ?_
                      refine lv_bipush (v := nI 8) hx hb dX1_listFew_83 (by decide) ?_
                      refine lv_iload_n hx hb dX1_listFew_85 rfl (lv_at hl 1 rfl) ?_
                      refine n_mul hx hb dX1_listFew_86 ?_
                      refine lv_iload_n hx hb dX1_listFew_87 rfl (lv_at hl 2 rfl) ?_
                      refine n_add hx hb dX1_listFew_88 ?_
                      refine lv_aload_n hx hb dX1_listFew_89 rfl (lv_at hl 0 rfl) ?_
                      refine lv_iload_n hx hb dX1_listFew_90 rfl (lv_at hl 1 rfl) ?_
                      refine lv_aload_n hx hb dX1_listFew_91 rfl (lv_at hl 0 rfl) ?_
                      refine gX_14 C I dX1_listFew_92 ?_
                      refine lv_iload_n hx hb dX1_listFew_95 rfl (lv_at hl 2 rfl) ?_
                      refine ldX_14 C I (k) (rfl) (by omega) (v := nI (cbSel P N k)) (by rw [hrK 14 (by decide)]; exact hA k c76) dX1_listFew_96 ?_
                      refine mG_call (q := (RX1, TX1, 18)) (ci := 0) C I (metX_answerTo l DD dd h a fL rK g (cbSel P N k) gmK c66 (cbSel_lt (by rw [← hF]; exact c76))) ⟨_, rfl⟩ rfl cwX_XanswerTo cdX_answerTo ⟨Nat.le_of_ble_eq_true rfl, Nat.le_of_ble_eq_true rfl⟩ ⟨rfl, rfl⟩ rfl hl.1 (Nat.le_of_ble_eq_true rfl) dX1_listFew_97 ⟨Nat.zero_le _, Nat.zero_le _⟩ rfl (fun v2 f2 r2 H locs hp2 I => ?_)
                      obtain ⟨ev2, ef2, er2⟩ := hp2
                      subst ev2
                      rw [ef2, er2] at I
                      refine stX_15 C I ((8 * g) + k) (rfl) (by omega) dX1_listFew_100 (fun H locs rC erC orC I => ?_)
                      refine lv_iinc (v := nI (k + 1)) (lv' := [(2, .int (nI (k + 1))), (0, .ref h), (1, .int (nI g))]) hx hb dX1_listFew_101 hl (k := 2) rfl (nI_1 _) (by decide) rfl (fun ls hl => ?_)
                      refine lv_goto (tgt := 71) hx hb dX1_listFew_104 (by decide) ?_
                      refine ih3 (k + 1) _ _ _ _ (by omega) (by omega) (fun j hj => (orC j hj).trans (hrK j hj)) ?_ I (lv_sub hl [1, 2, 0] rfl)
                      intro y k1 hh
                      rw [erC]
                      by_cases he : 8 * y + k1 = 8 * g + k
                      · obtain ⟨e1, e2⟩ : y = g ∧ k1 = k := by omega
                        subst e1; subst e2
                        rw [pk_us]
                      · rw [pk_un he]; exact hyK y k1 (by omega)
                exact loop71 (F + 1) 0 _ _ _ _ (by omega) (by omega) hrG (fun y k1 hh => hyG y k1 (by omega) (by omega)) I (lv_sub hl [1, 2, 0] rfl)
          exact loop61 (N + 1) 0 _ _ _ _ (by omega) (by omega) (fun _ _ => rfl) (fun y k1 hy1 _ => absurd hy1 (Nat.not_lt_zero y)) I (lv_sub hl [1, 0] rfl)
        · refine lv_aload_n hx hb dX1_listFew_24 rfl (lv_at hl 0 rfl) ?_
          refine gX_8 C I dX1_listFew_25 ?_
          refine lv_iload_n hx hb dX1_listFew_28 rfl (lv_at hl 1 rfl) ?_
          refine ldX_8 C I (x) (rfl) (by omega) (v := nI (cbBad L D G B c x)) (by rw [hrL 8 (by decide)]; exact hbad x c12) dX1_listFew_29 ?_
          refine n_ifne (tgt := 53) hx hb (Nat.lt_of_le_of_lt (cbBad_le _ _ _ _ _ _) (by omega)) dX1_listFew_30 (by decide) (fun c30 => ?_) (fun c30 => ?_)
          · have hp : P x = false := by rw [hP]; exact decide_eq_false c30
            have hm1 := hfL
            have hm2 : fL 13 = nI (cbCnt P (x + 1)) := by rw [cbCnt_f hp]; exact h13
            have hm3 := hrL
            have hm4 : ∀ k, k < cbCnt P (x + 1) → rL 14 k = nI (cbSel P (x + 1) k) := fun k hk => by
              rw [cbCnt_f hp] at hk
              rw [cbSel_old hk]; exact h14 k hk
            refine lv_iinc (v := nI (x + 1)) (lv' := [(1, .int (nI (x + 1))), (0, .ref h)]) hx hb dX1_listFew_53 hl (k := 1) rfl (nI_1 _) (by decide) rfl (fun ls hl => ?_)
            refine lv_goto (tgt := 7) hx hb dX1_listFew_56 (by decide) ?_
            exact ih (x + 1) _ _ _ _ _ (by omega) (by omega) hm1 hm2 hm3 hm4 I (lv_sub hl [1, 0] rfl)
          · have hp : P x = true := by rw [hP]; exact decide_eq_true c30
            refine lv_aload_n hx hb dX1_listFew_33 rfl (lv_at hl 0 rfl) ?_
            refine gX_14 C I dX1_listFew_34 ?_
            refine lv_aload_n hx hb dX1_listFew_37 rfl (lv_at hl 0 rfl) ?_
            refine gX_13 C I (v := nI (cbCnt P x)) (h13) dX1_listFew_38 ?_
            refine lv_iload_n hx hb dX1_listFew_41 rfl (lv_at hl 1 rfl) ?_
            refine stX_14 C I (cbCnt P x) (rfl) (by omega) dX1_listFew_42 (fun H locs rA erA orA I => ?_)
            refine lv_aload_n hx hb dX1_listFew_43 rfl (lv_at hl 0 rfl) ?_
            refine lv_dup hx hb dX1_listFew_44 rfl ?_
            refine gX_13 C I (v := nI (cbCnt P x)) (h13) dX1_listFew_45 ?_
            refine lv_iconst (v := nI 1) hx hb dX1_listFew_48 (by decide) ?_
            refine n_add hx hb dX1_listFew_49 ?_
            refine pX_13 C I dX1_listFew_50 (fun H locs fB efB ofB I => ?_)
            have hm1 : ∀ k, k ≠ 13 → fB k = f k := fun k hk => (ofB k hk).trans (hfL k hk)
            have hm2 : fB 13 = nI (cbCnt P (x + 1)) := by rw [cbCnt_t hp]; exact efB
            have hm3 : ∀ j, j ≠ 14 → rA j = r j := fun j hj => (orA j hj).trans (hrL j hj)
            have hm4 : ∀ k, k < cbCnt P (x + 1) → rA 14 k = nI (cbSel P (x + 1) k) := fun k hk => by
              rw [cbCnt_t hp] at hk
              rw [erA]
              by_cases hkx : k = cbCnt P x
              · subst hkx
                rw [pk_us, cbSel_new hp]
              · rw [pk_un hkx, cbSel_old (by omega)]; exact h14 k (by omega)
            refine lv_iinc (v := nI (x + 1)) (lv' := [(1, .int (nI (x + 1))), (0, .ref h)]) hx hb dX1_listFew_53 hl (k := 1) rfl (nI_1 _) (by decide) rfl (fun ls hl => ?_)
            refine lv_goto (tgt := 7) hx hb dX1_listFew_56 (by decide) ?_
            exact ih (x + 1) _ _ _ _ _ (by omega) (by omega) hm1 hm2 hm3 hm4 I (lv_sub hl [1, 0] rfl)
  exact loop7 (N + 1) 0 _ _ _ _ _ (by omega) (by omega) of0 ef0 (fun _ _ => rfl) (fun k hk => absurd hk (Nat.not_lt_zero k)) I (lv_sub hl [1, 0] rfl)
set_option maxHeartbeats 4000000 in
set_option maxRecDepth 100000 in
theorem metX_neededWith (l : Launch) (DD : va_G) (dd : ClassId) (h : Nat) (a : Nat → Nat) (f : Nat → Int32) (r : Nat → Nat → Int32) {L F : Nat} (u g : Nat) (A T : Nat → Nat) (e0 : f 0 = nI L) (hL : L ≤ 4) (e13 : f 13 = nI F) (hF : F ≤ 8) (hg : g < 81) (hu : u < 256) (hA : ∀ k, k < F → r 15 (8 * g + k) = nI (A k) ∧ A k < 45) (hT : ∀ t, t < u → r 16 t = nI (T t) ∧ T t ≤ 100) : mG l wX yX1_neededWith cX1_neededWith 9 .int (rmK 0) DD dd h a f r [.int (nI u), .int (nI g)] (fun v f' r' => v = nI (cbNW A F (10 * L) T u) ∧ f' = f ∧ ∀ j, j ≠ 17 → r' j = r j) := by
  refine mG_start (by decide) (Nat.le_of_ble_eq_true rfl) ?_
  intro p ee s m args below meth cd AA Q ls C I hl ret
  have hx := C.1
  have hb := C.2.1
  have hl : lv_has ls 9 [(0, .ref h), (1, .int (nI u)), (2, .int (nI g))] := hl
  obtain ⟨Hh, hHh⟩ : ∃ Hh : Nat → Nat, Hh = cbHere A F (10 * L) T u := ⟨_, rfl⟩
  refine lv_bipush (v := nI 10) hx hb dX1_neededWith_0 (by decide) ?_
  refine lv_aload_n hx hb dX1_neededWith_2 rfl (lv_at hl 0 rfl) ?_
  refine gX_0 C I (v := nI (L)) (e0) dX1_neededWith_3 ?_
  refine n_mul hx hb dX1_neededWith_6 ?_
  refine lv_istore_n (lv' := [(3, .int (nI (10 * L))), (0, .ref h), (1, .int (nI u)), (2, .int (nI g))]) hx hb dX1_neededWith_7 rfl hl (by decide) rfl (fun ls hl => ?_)
  refine lv_iconst (v := nI 0) hx hb dX1_neededWith_8 (by decide) ?_
  refine lv_istore (lv' := [(4, .int (nI 0)), (3, .int (nI (10 * L))), (0, .ref h), (1, .int (nI u)), (2, .int (nI g))]) hx hb dX1_neededWith_9 hl (by decide) rfl (fun ls hl => ?_)
  have loop11 : ∀ (n : Nat) (k : Nat) (rL : Nat → Nat → Int32) (H : Heap) (locs : List Loc) (ls : Array Slot), (F < k + n) → (k ≤ F) → (∀ j, j ≠ 17 → rL j = r j) → (∀ j, j < k → rL 17 (A j) = nI 0) → iG wX DD dd AA s.heap h a f rL H locs → lv_has ls 9 [(0, .ref h), (1, .int (nI u)), (2, .int (nI g)), (3, .int (nI (10 * L))), (4, .int (nI k))] → W p l ee (rmK 0) s m args below meth cd H locs 0 0 Q (F0 m 11 ls []) := by
    intro n
    induction n with
    | zero =>
      intros; exfalso; omega
    | succ n ih =>
      intro k rL H locs ls h1 h2 hr hy I hl
      refine lv_iload hx hb dX1_neededWith_11 (lv_at hl 4 rfl) ?_
      refine lv_aload_n hx hb dX1_neededWith_13 rfl (lv_at hl 0 rfl) ?_
      refine gX_13 C I (v := nI (F)) (e13) dX1_neededWith_14 ?_
      refine n_icge (tgt := 44) hx hb (by omega) (by omega) dX1_neededWith_17 (by decide) (fun c17 => ?_) (fun c17 => ?_)
      · have hy : ∀ j, j < F → rL 17 (A j) = nI 0 := fun j hj => hy j (by omega)
        clear ih h1 h2 c17
        refine lv_iconst (v := nI 0) hx hb dX1_neededWith_44 (by decide) ?_
        refine lv_istore (lv' := [(4, .int (nI 0)), (0, .ref h), (1, .int (nI u)), (2, .int (nI g)), (3, .int (nI (10 * L)))]) hx hb dX1_neededWith_45 hl (by decide) rfl (fun ls hl => ?_)
        have loop47 : ∀ (n2 : Nat) (k : Nat) (rB : Nat → Nat → Int32) (H : Heap) (locs : List Loc) (ls : Array Slot), (F < k + n2) → (k ≤ F) → (∀ j, j ≠ 17 → rB j = r j) → (∀ j, j < F → rB 17 (A j) = nI (cbMask (cbQ A u (A j)) k)) → iG wX DD dd AA s.heap h a f rB H locs → lv_has ls 9 [(0, .ref h), (1, .int (nI u)), (2, .int (nI g)), (3, .int (nI (10 * L))), (4, .int (nI k))] → W p l ee (rmK 0) s m args below meth cd H locs 0 0 Q (F0 m 47 ls []) := by
          intro n2
          induction n2 with
          | zero =>
            intros; exfalso; omega
          | succ n2 ih2 =>
            intro k rB H locs ls h3 h4 hrB hyB I hl
            refine lv_iload hx hb dX1_neededWith_47 (lv_at hl 4 rfl) ?_
            refine lv_aload_n hx hb dX1_neededWith_49 rfl (lv_at hl 0 rfl) ?_
            refine gX_13 C I (v := nI (F)) (e13) dX1_neededWith_50 ?_
            refine n_icge (tgt := 115) hx hb (by omega) (by omega) dX1_neededWith_53 (by decide) (fun c53 => ?_) (fun c53 => ?_)
            · have hyB : ∀ j, j < F → rB 17 (A j) = nI (cbPt A F u (A j)) := fun j hj => by
                rw [hyB j hj, show k = F by omega]; rfl
              clear ih2 h3 h4 c53
              refine lv_iconst (v := nI 0) hx hb dX1_neededWith_115 (by decide) ?_
              refine lv_istore (lv' := [(4, .int (nI 0)), (0, .ref h), (1, .int (nI u)), (2, .int (nI g)), (3, .int (nI (10 * L)))]) hx hb dX1_neededWith_116 hl (by decide) rfl (fun ls hl => ?_)
              refine lv_iconst (v := nI 0) hx hb dX1_neededWith_118 (by decide) ?_
              refine lv_istore (lv' := [(5, .int (nI 0)), (4, .int (nI 0)), (0, .ref h), (1, .int (nI u)), (2, .int (nI g)), (3, .int (nI (10 * L)))]) hx hb dX1_neededWith_119 hl (by decide) rfl (fun ls hl => ?_)
              have loop121 : ∀ (n3 : Nat) (k : Nat) (H : Heap) (locs : List Loc) (ls : Array Slot), (F < k + n3) → (k ≤ F) → iG wX DD dd AA s.heap h a f rB H locs → lv_has ls 9 [(0, .ref h), (1, .int (nI u)), (2, .int (nI g)), (3, .int (nI (10 * L))), (4, .int (nI (cbMax Hh k))), (5, .int (nI k))] → W p l ee (rmK 0) s m args below meth cd H locs 0 0 Q (F0 m 121 ls []) := by
                intro n3
                induction n3 with
                | zero =>
                  intros; exfalso; omega
                | succ n3 ih3 =>
                  intro k H locs ls h5 h6 I hl
                  have hHk : Hh k ≤ 100 := by rw [hHh]; exact cbHere_le (fun t ht => (hT t ht).2) k
                  have hMk : cbMax Hh k ≤ 100 := by rw [hHh]; exact cbMax_bound (fun k _ => cbHere_le (fun t ht => (hT t ht).2) k)
                  have hpt := cbPt_le A F u (A k)
                  refine lv_iload hx hb dX1_neededWith_121 (lv_at hl 5 rfl) ?_
                  refine lv_aload_n hx hb dX1_neededWith_123 rfl (lv_at hl 0 rfl) ?_
                  refine gX_13 C I (v := nI (F)) (e13) dX1_neededWith_124 ?_
                  refine n_icge (tgt := 210) hx hb (by omega) (by omega) dX1_neededWith_127 (by decide) (fun c127 => ?_) (fun c127 => ?_)
                  · have e9 : F = k := by omega
                    subst e9
                    refine lv_iload hx hb dX1_neededWith_210 (lv_at hl 4 rfl) ?_
                    refine lv_iconst (v := nI 1) hx hb dX1_neededWith_212 (by decide) ?_
                    refine n_add hx hb dX1_neededWith_213 ?_
                    exact ret _ _ _ _ _ _ _ dX1_neededWith_214 (rfl) I (⟨by rw [hHh]; rfl, rfl, hrB⟩)
                  · refine lv_aload_n hx hb dX1_neededWith_130 rfl (lv_at hl 0 rfl) ?_
                    refine gX_15 C I dX1_neededWith_131 ?_
                    refine lv_bipush (v := nI 8) hx hb dX1_neededWith_134 (by decide) ?_
                    refine lv_iload_n hx hb dX1_neededWith_136 rfl (lv_at hl 2 rfl) ?_
                    refine n_mul hx hb dX1_neededWith_137 ?_
                    refine lv_iload hx hb dX1_neededWith_138 (lv_at hl 5 rfl) ?_
                    refine n_add hx hb dX1_neededWith_140 ?_
                    refine ldX_15 C I ((8 * g) + k) (rfl) (by omega) (v := nI (A k)) (by rw [hrB 15 (by decide)]; exact (hA k c127).1) dX1_neededWith_141 ?_
                    refine lv_istore (lv' := [(6, .int (nI (A k))), (0, .ref h), (1, .int (nI u)), (2, .int (nI g)), (3, .int (nI (10 * L))), (4, .int (nI (cbMax Hh k))), (5, .int (nI k))]) hx hb dX1_neededWith_142 hl (by decide) rfl (fun ls hl => ?_)
                    refine lv_aload_n hx hb dX1_neededWith_144 rfl (lv_at hl 1 rfl) ?_
                    refine gX_17 C I dX1_neededWith_145 ?_
                    refine lv_iload hx hb dX1_neededWith_148 (lv_at hl 0 rfl) ?_
                    refine ldX_17 C I (A k) (rfl) ((hA k c127).2) (v := nI (cbPt A F u (A k))) (hyB k c127) dX1_neededWith_150 ?_
                    refine lv_istore (lv' := [(7, .int (nI (cbPt A F u (A k)))), (6, .int (nI (A k))), (0, .ref h), (1, .int (nI u)), (2, .int (nI g)), (3, .int (nI (10 * L))), (4, .int (nI (cbMax Hh k))), (5, .int (nI k))]) hx hb dX1_neededWith_151 hl (by decide) rfl (fun ls hl => ?_)
                    refine lv_iload hx hb dX1_neededWith_153 (lv_at hl 1 rfl) ?_
                    refine lv_iload_n hx hb dX1_neededWith_155 rfl (lv_at hl 5 rfl) ?_
                    have join186 : W p l ee (rmK 0) s m args below meth cd H locs 0 0 Q (F0 m 186 ls [.int (nI (Hh k))]) := by
                      refine lv_istore (lv' := [(8, .int (nI (Hh k))), (7, .int (nI (cbPt A F u (A k)))), (6, .int (nI (A k))), (0, .ref h), (1, .int (nI u)), (2, .int (nI g)), (3, .int (nI (10 * L))), (4, .int (nI (cbMax Hh k))), (5, .int (nI k))]) hx hb dX1_neededWith_186 hl (by decide) rfl (fun ls hl => ?_)
                      refine lv_iload hx hb dX1_neededWith_188 (lv_at hl 0 rfl) ?_
                      refine lv_iload hx hb dX1_neededWith_190 (lv_at hl 7 rfl) ?_
                      have join202 : W p l ee (rmK 0) s m args below meth cd H locs 0 0 Q (F0 m 202 ls [.int (nI (cbMax Hh (k + 1)))]) := by
                        refine lv_istore (lv' := [(4, .int (nI (cbMax Hh (k + 1)))), (8, .int (nI (Hh k))), (7, .int (nI (cbPt A F u (A k)))), (6, .int (nI (A k))), (0, .ref h), (1, .int (nI u)), (2, .int (nI g)), (3, .int (nI (10 * L))), (5, .int (nI k))]) hx hb dX1_neededWith_202 hl (by decide) rfl (fun ls hl => ?_)
                        refine lv_iinc (v := nI (k + 1)) (lv' := [(5, .int (nI (k + 1))), (4, .int (nI (cbMax Hh (k + 1)))), (8, .int (nI (Hh k))), (7, .int (nI (cbPt A F u (A k)))), (6, .int (nI (A k))), (0, .ref h), (1, .int (nI u)), (2, .int (nI g)), (3, .int (nI (10 * L)))]) hx hb dX1_neededWith_204 hl (k := 8) rfl (nI_1 _) (by decide) rfl (fun ls hl => ?_)
                        refine lv_goto (tgt := 121) hx hb dX1_neededWith_207 (by decide) ?_
                        exact ih3 (k + 1) _ _ _ (by omega) (by omega) I (lv_sub hl [5, 6, 7, 8, 1, 0] rfl)
                      refine n_icle (tgt := 200) hx hb (by omega) (by omega) dX1_neededWith_192 (by decide) (fun c192 => ?_) (fun c192 => ?_)
                      · refine lv_iload hx hb dX1_neededWith_200 (lv_at hl 7 rfl) ?_
                        refine w_top (v := nI (cbMax Hh (k + 1))) (by rw [cbMax_n c192]) ?_
                        exact join202
                      · refine lv_iload hx hb dX1_neededWith_195 (lv_at hl 0 rfl) ?_
                        refine lv_goto (tgt := 202) hx hb dX1_neededWith_197 (by decide) ?_
                        refine w_top (v := nI (cbMax Hh (k + 1))) (by rw [cbMax_p c192]) ?_
                        exact join202
                    refine n_iceq (tgt := 164) hx hb (Nat.lt_trans (hA k c127).2 (by decide)) (by omega) dX1_neededWith_156 (by decide) (fun c156 => ?_) (fun c156 => ?_)
                    · refine lv_iconst (v := nI 0) hx hb dX1_neededWith_164 (by decide) ?_
                      refine lv_goto (tgt := 186) hx hb dX1_neededWith_165 (by decide) ?_
                      refine w_top (v := nI (Hh k)) (by rw [hHh, cbHere_0 (Or.inl c156)]) ?_
                      exact join186
                    · refine lv_iload hx hb dX1_neededWith_159 (lv_at hl 0 rfl) ?_
                      refine n_ifne (tgt := 168) hx hb (by omega) dX1_neededWith_161 (by decide) (fun c161 => ?_) (fun c161 => ?_)
                      · refine lv_iload hx hb dX1_neededWith_168 (lv_at hl 0 rfl) ?_
                        refine lv_iload_n hx hb dX1_neededWith_170 rfl (lv_at hl 3 rfl) ?_
                        refine n_icne (tgt := 179) hx hb (by omega) (by omega) dX1_neededWith_171 (by decide) (fun c171 => ?_) (fun c171 => ?_)
                        · refine lv_aload_n hx hb dX1_neededWith_179 rfl (lv_at hl 2 rfl) ?_
                          refine gX_16 C I dX1_neededWith_180 ?_
                          refine lv_iload hx hb dX1_neededWith_183 (lv_at hl 0 rfl) ?_
                          refine ldX_16 C I (cbPt A F u (A k)) (rfl) (by omega) (v := nI (T (cbPt A F u (A k)))) (by rw [hrB 16 (by decide)]; exact (hT _ (by omega)).1) dX1_neededWith_185 ?_
                          refine w_top (v := nI (Hh k)) (by rw [hHh, cbHere_T c156 c161 c171]) ?_
                          exact join186
                        · refine lv_bipush (v := nI 100) hx hb dX1_neededWith_174 (by decide) ?_
                          refine lv_goto (tgt := 186) hx hb dX1_neededWith_176 (by decide) ?_
                          refine w_top (v := nI (Hh k)) (by rw [hHh, cbHere_1 c156 c161 c171]) ?_
                          exact join186
                      · refine lv_iconst (v := nI 0) hx hb dX1_neededWith_164 (by decide) ?_
                        refine lv_goto (tgt := 186) hx hb dX1_neededWith_165 (by decide) ?_
                        refine w_top (v := nI (Hh k)) (by rw [hHh, cbHere_0 (Or.inr c161)]) ?_
                        exact join186
              exact loop121 (F + 1) 0 _ _ _ (by omega) (by omega) I (lv_sub hl [2, 3, 4, 5, 1, 0] rfl)
            · refine lv_aload_n hx hb dX1_neededWith_56 rfl (lv_at hl 0 rfl) ?_
              refine gX_15 C I dX1_neededWith_57 ?_
              refine lv_bipush (v := nI 8) hx hb dX1_neededWith_60 (by decide) ?_
              refine lv_iload_n hx hb dX1_neededWith_62 rfl (lv_at hl 2 rfl) ?_
              refine n_mul hx hb dX1_neededWith_63 ?_
              refine lv_iload hx hb dX1_neededWith_64 (lv_at hl 4 rfl) ?_
              refine n_add hx hb dX1_neededWith_66 ?_
              refine ldX_15 C I ((8 * g) + k) (rfl) (by omega) (v := nI (A k)) (by rw [hrB 15 (by decide)]; exact (hA k c53).1) dX1_neededWith_67 ?_
              refine lv_istore (lv' := [(5, .int (nI (A k))), (0, .ref h), (1, .int (nI u)), (2, .int (nI g)), (3, .int (nI (10 * L))), (4, .int (nI k))]) hx hb dX1_neededWith_68 hl (by decide) rfl (fun ls hl => ?_)
              refine lv_aload_n hx hb dX1_neededWith_70 rfl (lv_at hl 1 rfl) ?_
              refine gX_17 C I dX1_neededWith_71 ?_
              refine lv_iload hx hb dX1_neededWith_74 (lv_at hl 0 rfl) ?_
              refine lv_iload_n hx hb dX1_neededWith_76 rfl (lv_at hl 2 rfl) ?_
              refine lv_iload hx hb dX1_neededWith_77 (lv_at hl 5 rfl) ?_
              refine lv_ishr hx hb dX1_neededWith_79 ?_
              refine lv_iconst (v := nI 1) hx hb dX1_neededWith_80 (by decide) ?_
              refine lv_iand hx hb dX1_neededWith_81 ?_
              refine w_top (v := nI ((u.testBit k).toNat)) (cb_bitD k (by omega) u hu) ?_
              refine lv_iconst (v := nI 1) hx hb dX1_neededWith_82 (by decide) ?_
              have join108 : W p l ee (rmK 0) s m args below meth cd H locs 0 0 Q (F0 m 108 ls [.int (nI (cbMask (cbQ A u (A k)) (k + 1))), .int (nI (A k)), .ref (a 17)]) := by
                refine stX_17 C I (A k) (rfl) ((hA k c53).2) dX1_neededWith_108 (fun H locs rC erC orC I => ?_)
                refine lv_iinc (v := nI (k + 1)) (lv' := [(4, .int (nI (k + 1))), (5, .int (nI (A k))), (0, .ref h), (1, .int (nI u)), (2, .int (nI g)), (3, .int (nI (10 * L)))]) hx hb dX1_neededWith_109 hl (k := 5) rfl (nI_1 _) (by decide) rfl (fun ls hl => ?_)
                refine lv_goto (tgt := 47) hx hb dX1_neededWith_112 (by decide) ?_
                refine ih2 (k + 1) _ _ _ _ (by omega) (by omega) (fun j hj => (orC j hj).trans (hrB j hj)) ?_ I (lv_sub hl [2, 3, 4, 5, 0] rfl)
                intro j hj
                rw [erC]
                by_cases he : A j = A k
                · rw [he, pk_us]
                · rw [pk_un he, cbMask_f (by simp [cbQ, Ne.symm he])]; exact hyB j hj
              refine n_icne (tgt := 101) hx hb (Nat.lt_of_le_of_lt (Bool.toNat_le _) (by decide)) (by omega) dX1_neededWith_83 (by decide) (fun c83 => ?_) (fun c83 => ?_)
              · refine lv_aload_n hx hb dX1_neededWith_101 rfl (lv_at hl 1 rfl) ?_
                refine gX_17 C I dX1_neededWith_102 ?_
                refine lv_iload hx hb dX1_neededWith_105 (lv_at hl 0 rfl) ?_
                refine ldX_17 C I (A k) (rfl) ((hA k c53).2) (v := nI (cbMask (cbQ A u (A k)) k)) (hyB k c53) dX1_neededWith_107 ?_
                refine w_top (v := nI (cbMask (cbQ A u (A k)) (k + 1))) (by rw [cbMask_f (by unfold cbQ; cases hc : u.testBit k <;> simp_all)]) ?_
                exact join108
              · refine lv_aload_n hx hb dX1_neededWith_86 rfl (lv_at hl 1 rfl) ?_
                refine gX_17 C I dX1_neededWith_87 ?_
                refine lv_iload hx hb dX1_neededWith_90 (lv_at hl 0 rfl) ?_
                refine ldX_17 C I (A k) (rfl) ((hA k c53).2) (v := nI (cbMask (cbQ A u (A k)) k)) (hyB k c53) dX1_neededWith_92 ?_
                refine lv_iconst (v := nI 1) hx hb dX1_neededWith_93 (by decide) ?_
                refine lv_iload hx hb dX1_neededWith_94 (lv_at hl 5 rfl) ?_
                refine lv_ishl hx hb dX1_neededWith_96 ?_
                refine w_top (v := nI (2 ^ k)) (cb_shlD k (by omega)) ?_
                refine lv_ior hx hb dX1_neededWith_97 ?_
                refine w_top (v := nI (cbMask (cbQ A u (A k)) k + 2 ^ k)) (cb_orD k (by omega) _ (cbMask_lt _ _)) ?_
                refine lv_goto (tgt := 108) hx hb dX1_neededWith_98 (by decide) ?_
                refine w_top (v := nI (cbMask (cbQ A u (A k)) (k + 1))) (by rw [cbMask_t (by unfold cbQ; cases hc : u.testBit k <;> simp_all)]) ?_
                exact join108
        exact loop47 (F + 1) 0 _ _ _ _ (by omega) (by omega) hr (fun j hj => hy j hj) I (lv_sub hl [1, 2, 3, 4, 0] rfl)
      · refine lv_aload_n hx hb dX1_neededWith_20 rfl (lv_at hl 0 rfl) ?_
        refine gX_17 C I dX1_neededWith_21 ?_
        refine lv_aload_n hx hb dX1_neededWith_24 rfl (lv_at hl 0 rfl) ?_
        refine gX_15 C I dX1_neededWith_25 ?_
        refine lv_bipush (v := nI 8) hx hb dX1_neededWith_28 (by decide) ?_
        refine lv_iload_n hx hb dX1_neededWith_30 rfl (lv_at hl 2 rfl) ?_
        refine n_mul hx hb dX1_neededWith_31 ?_
        refine lv_iload hx hb dX1_neededWith_32 (lv_at hl 4 rfl) ?_
        refine n_add hx hb dX1_neededWith_34 ?_
        refine ldX_15 C I ((8 * g) + k) (rfl) (by omega) (v := nI (A k)) (by rw [hr 15 (by decide)]; exact (hA k c17).1) dX1_neededWith_35 ?_
        refine lv_iconst (v := nI 0) hx hb dX1_neededWith_36 (by decide) ?_
        refine stX_17 C I (A k) (rfl) ((hA k c17).2) dX1_neededWith_37 (fun H locs rA erA orA I => ?_)
        refine lv_iinc (v := nI (k + 1)) (lv' := [(4, .int (nI (k + 1))), (0, .ref h), (1, .int (nI u)), (2, .int (nI g)), (3, .int (nI (10 * L)))]) hx hb dX1_neededWith_38 hl (k := 4) rfl (nI_1 _) (by decide) rfl (fun ls hl => ?_)
        refine lv_goto (tgt := 11) hx hb dX1_neededWith_41 (by decide) ?_
        refine ih (k + 1) _ _ _ _ (by omega) (by omega) (fun j hj => (orA j hj).trans (hr j hj)) ?_ I (lv_sub hl [1, 2, 3, 4, 0] rfl)
        intro j hj
        rw [erA]
        by_cases he : A j = A k
        · rw [he, pk_us]
        · have hjk : j ≠ k := fun z => he (by rw [z])
          rw [pk_un he]; exact hy j (by omega)
  exact loop11 (F + 1) 0 _ _ _ _ (by omega) (by omega) (fun _ _ => rfl) (fun j hj => absurd hj (Nat.not_lt_zero j)) I (lv_sub hl [2, 3, 4, 1, 0] rfl)
set_option maxHeartbeats 4000000 in
set_option maxRecDepth 100000 in
theorem metX_isOf (l : Launch) (DD : va_G) (dd : ClassId) (h : Nat) (a : Nat → Nat) (f : Nat → Int32) (r : Nat → Nat → Int32) {F : Nat} (u g : Nat) (fc : Nat → Nat) (e13 : f 13 = nI F) (hF : F ≤ 8) (hg : g < 81) (hu : u < 256) (hfc : ∀ k, k < F → r 14 k = nI (fc k) ∧ fc k < 81) : mG l wX yX1_isOf cX1_isOf 5 .boolean (rmK 0) DD dd h a f r [.int (nI u), .int (nI g)] (fun v f' r' => v = nI (cbIn fc F u g).toNat ∧ f' = f ∧ r' = r) := by
  refine mG_start (by decide) (Nat.le_of_ble_eq_true rfl) ?_
  intro p ee s m args below meth cd AA Q ls C I hl ret
  have hx := C.1
  have hb := C.2.1
  have hl : lv_has ls 5 [(0, .ref h), (1, .int (nI u)), (2, .int (nI g))] := hl
  obtain ⟨U, hUd⟩ : ∃ U : Nat → Bool, U = (fun k => u.testBit k && decide (fc k = g)) := ⟨_, rfl⟩
  refine lv_iconst (v := nI 0) hx hb dX1_isOf_0 (by decide) ?_
  refine lv_istore_n (lv' := [(3, .int (nI 0)), (0, .ref h), (1, .int (nI u)), (2, .int (nI g))]) hx hb dX1_isOf_1 rfl hl (by decide) rfl (fun ls hl => ?_)
  refine lv_iconst (v := nI 0) hx hb dX1_isOf_2 (by decide) ?_
  refine lv_istore (lv' := [(4, .int (nI 0)), (3, .int (nI 0)), (0, .ref h), (1, .int (nI u)), (2, .int (nI g))]) hx hb dX1_isOf_3 hl (by decide) rfl (fun ls hl => ?_)
  have loop5 : ∀ (n : Nat) (k : Nat) (H : Heap) (locs : List Loc) (ls : Array Slot), (F < k + n) → (k ≤ F) → iG wX DD dd AA s.heap h a f r H locs → lv_has ls 5 [(0, .ref h), (1, .int (nI u)), (2, .int (nI g)), (3, .int (nI ((cbAny U k).toNat))), (4, .int (nI k))] → W p l ee (rmK 0) s m args below meth cd H locs 0 0 Q (F0 m 5 ls []) := by
    intro n
    induction n with
    | zero =>
      intros; exfalso; omega
    | succ n ih =>
      intro k H locs ls h1 h2 I hl
      refine lv_iload hx hb dX1_isOf_5 (lv_at hl 4 rfl) ?_
      refine lv_aload_n hx hb dX1_isOf_7 rfl (lv_at hl 0 rfl) ?_
      refine gX_13 C I (v := nI (F)) (e13) dX1_isOf_8 ?_
      refine n_icge (tgt := 51) hx hb (by omega) (by omega) dX1_isOf_11 (by decide) (fun c11 => ?_) (fun c11 => ?_)
      · have e9 : F = k := by omega
        subst e9
        refine lv_iload_n hx hb dX1_isOf_51 rfl (lv_at hl 3 rfl) ?_
        exact ret _ _ _ _ _ _ _ dX1_isOf_52 (cb_narb _) I (⟨by rw [hUd]; rfl, rfl, rfl⟩)
      · have hU : U k = (u.testBit k && decide (fc k = g)) := by rw [hUd]
        refine lv_iload_n hx hb dX1_isOf_14 rfl (lv_at hl 3 rfl) ?_
        have join44 : W p l ee (rmK 0) s m args below meth cd H locs 0 0 Q (F0 m 44 ls [.int (nI ((cbAny U (k + 1)).toNat))]) := by
          refine lv_istore_n (lv' := [(3, .int (nI ((cbAny U (k + 1)).toNat))), (0, .ref h), (1, .int (nI u)), (2, .int (nI g)), (4, .int (nI k))]) hx hb dX1_isOf_44 rfl hl (by decide) rfl (fun ls hl => ?_)
          refine lv_iinc (v := nI (k + 1)) (lv' := [(4, .int (nI (k + 1))), (3, .int (nI ((cbAny U (k + 1)).toNat))), (0, .ref h), (1, .int (nI u)), (2, .int (nI g))]) hx hb dX1_isOf_45 hl (k := 4) rfl (nI_1 _) (by decide) rfl (fun ls hl => ?_)
          refine lv_goto (tgt := 5) hx hb dX1_isOf_48 (by decide) ?_
          exact ih (k + 1) _ _ _ (by omega) (by omega) I (lv_sub hl [2, 3, 4, 1, 0] rfl)
        refine n_ifne (tgt := 39) hx hb (Nat.lt_of_le_of_lt (Bool.toNat_le _) (by decide)) dX1_isOf_15 (by decide) (fun c15 => ?_) (fun c15 => ?_)
        · refine lv_iconst (v := nI 1) hx hb dX1_isOf_39 (by decide) ?_
          refine lv_goto (tgt := 44) hx hb dX1_isOf_40 (by decide) ?_
          refine w_top (v := nI ((cbAny U (k + 1)).toNat)) (by rw [cbAny_l (by cases hc : cbAny U k <;> simp_all)]; rfl) ?_
          exact join44
        · refine lv_iload_n hx hb dX1_isOf_18 rfl (lv_at hl 1 rfl) ?_
          refine lv_iload hx hb dX1_isOf_19 (lv_at hl 4 rfl) ?_
          refine lv_ishr hx hb dX1_isOf_21 ?_
          refine lv_iconst (v := nI 1) hx hb dX1_isOf_22 (by decide) ?_
          refine lv_iand hx hb dX1_isOf_23 ?_
          refine w_top (v := nI ((u.testBit k).toNat)) (cb_bitD k (by omega) u hu) ?_
          refine lv_iconst (v := nI 1) hx hb dX1_isOf_24 (by decide) ?_
          refine n_icne (tgt := 43) hx hb (Nat.lt_of_le_of_lt (Bool.toNat_le _) (by decide)) (by omega) dX1_isOf_25 (by decide) (fun c25 => ?_) (fun c25 => ?_)
          · refine lv_iconst (v := nI 0) hx hb dX1_isOf_43 (by decide) ?_
            refine w_top (v := nI ((cbAny U (k + 1)).toNat)) (by rw [cbAny_0 (by cases hc : cbAny U k <;> simp_all) (by rw [hU]; cases hc : u.testBit k <;> simp_all)]; rfl) ?_
            exact join44
          · refine lv_aload_n hx hb dX1_isOf_28 rfl (lv_at hl 0 rfl) ?_
            refine gX_14 C I dX1_isOf_29 ?_
            refine lv_iload hx hb dX1_isOf_32 (lv_at hl 4 rfl) ?_
            refine ldX_14 C I (k) (rfl) (by omega) (v := nI (fc k)) ((hfc k c11).1) dX1_isOf_34 ?_
            refine lv_iload_n hx hb dX1_isOf_35 rfl (lv_at hl 2 rfl) ?_
            refine n_icne (tgt := 43) hx hb (Nat.lt_trans (hfc k c11).2 (by decide)) (by omega) dX1_isOf_36 (by decide) (fun c36 => ?_) (fun c36 => ?_)
            · refine lv_iconst (v := nI 0) hx hb dX1_isOf_43 (by decide) ?_
              refine w_top (v := nI ((cbAny U (k + 1)).toNat)) (by rw [cbAny_0 (by cases hc : cbAny U k <;> simp_all) (by rw [hU]; simp [c36])]; rfl) ?_
              exact join44
            · refine lv_iconst (v := nI 1) hx hb dX1_isOf_39 (by decide) ?_
              refine lv_goto (tgt := 44) hx hb dX1_isOf_40 (by decide) ?_
              refine w_top (v := nI ((cbAny U (k + 1)).toNat)) (by rw [cbAny_r (by rw [hU]; cases hc : u.testBit k <;> simp_all)]; rfl) ?_
              exact join44
  exact loop5 (F + 1) 0 _ _ _ (by omega) (by omega) I (lv_sub hl [2, 3, 4, 1, 0] rfl)
set_option maxHeartbeats 4000000 in
set_option maxRecDepth 100000 in
theorem metX_findNeeded (l : Launch) (DD : va_G) (dd : ClassId) (h : Nat) (a : Nat → Nat) (f : Nat → Int32) (r : Nat → Nat → Int32) {L N F : Nat} (w : Nat) (A : Nat → Nat → Nat) (fc : Nat → Nat) (e0 : f 0 = nI L) (hL4 : L ≤ 4) (e2 : f 2 = nI N) (hN81 : N ≤ 81) (e13 : f 13 = nI F) (hF : F ≤ 8) (hw : w ≤ 1) (hfc : ∀ k, k < F → r 14 k = nI (fc k) ∧ fc k < 81) (hA : ∀ g k, g < N → k < F → r 15 (8 * g + k) = nI (A g k) ∧ A g k < 45) : mGv l wX yX1_findNeeded cX1_findNeeded 6 (rmK 1) DD dd h a f r [.int (nI w)] (fun f' r' => f' = f ∧ (∀ j, j ≠ 16 → j ≠ 17 → r' j = r j) ∧ ∀ t, t < 2 ^ F → r' 16 t = nI (cbT A fc F (10 * L) N w t)) := by
  refine mGv_start (by decide) (Nat.le_of_ble_eq_true rfl) ?_
  intro p ee s m args below meth cd AA Q ls C I hl ret
  have hx := C.1
  have hb := C.2.1
  have hl : lv_has ls 6 [(0, .ref h), (1, .int (nI w))] := hl
  obtain ⟨T, hTd⟩ : ∃ T : Nat → Nat, T = cbT A fc F (10 * L) N w := ⟨_, rfl⟩
  have h2F := cb_pow8 hF
  have h2p : 1 ≤ 2 ^ F := Nat.one_le_two_pow
  refine lv_aload_n hx hb dX1_findNeeded_0 rfl (lv_at hl 0 rfl) ?_
  refine gX_16 C I dX1_findNeeded_1 ?_
  refine lv_iconst (v := nI 0) hx hb dX1_findNeeded_4 (by decide) ?_
  refine lv_iconst (v := nI 0) hx hb dX1_findNeeded_5 (by decide) ?_
  refine stX_16 C I (0) (rfl) (by omega) dX1_findNeeded_6 (fun H locs r0 er0 or0 I => ?_)
  refine lv_iconst (v := nI 1) hx hb dX1_findNeeded_7 (by decide) ?_
  refine lv_istore_n (lv' := [(2, .int (nI 1)), (0, .ref h), (1, .int (nI w))]) hx hb dX1_findNeeded_8 rfl hl (by decide) rfl (fun ls hl => ?_)
  have loop9 : ∀ (n : Nat) (u : Nat) (rL : Nat → Nat → Int32) (H : Heap) (locs : List Loc) (ls : Array Slot), (2 ^ F < u + n) → (u ≤ 2 ^ F) → (1 ≤ u) → (∀ j, j ≠ 16 → j ≠ 17 → rL j = r j) → (∀ t, t < u → rL 16 t = nI (T t)) → iG wX DD dd AA s.heap h a f rL H locs → lv_has ls 6 [(0, .ref h), (1, .int (nI w)), (2, .int (nI u))] → W p l ee (rmK 1) s m args below meth cd H locs 0 0 Q (F0 m 9 ls []) := by
    intro n
    induction n with
    | zero =>
      intros; exfalso; omega
    | succ n ih =>
      intro u rL H locs ls h1 h2 h0 hrL hTL I hl
      refine lv_iload_n hx hb dX1_findNeeded_9 rfl (lv_at hl 2 rfl) ?_
      refine lv_iconst (v := nI 1) hx hb dX1_findNeeded_10 (by decide) ?_
      refine lv_aload_n hx hb dX1_findNeeded_11 rfl (lv_at hl 0 rfl) ?_
      refine gX_13 C I (v := nI (F)) (e13) dX1_findNeeded_12 ?_
      refine lv_ishl hx hb dX1_findNeeded_15 ?_
      refine w_top (v := nI (2 ^ F)) (cb_shlD F (by omega)) ?_
      refine n_icge (tgt := 89) hx hb (by omega) (by omega) dX1_findNeeded_16 (by decide) (fun c16 => ?_) (fun c16 => ?_)
      · exact ret _ _ _ _ _ _ dX1_findNeeded_89 I (⟨rfl, hrL, fun t ht => by rw [← hTd]; exact hTL t (by omega)⟩)
      · obtain ⟨ok, hok⟩ : ∃ ok : Nat → Bool, ok = cbOkG fc F w u := ⟨_, rfl⟩
        obtain ⟨V, hV⟩ : ∃ V : Nat → Nat, V = (fun g => cbNW (A g) F (10 * L) T u) := ⟨_, rfl⟩
        refine lv_bipush (v := nI 100) hx hb dX1_findNeeded_19 (by decide) ?_
        refine lv_istore_n (lv' := [(3, .int (nI 100)), (0, .ref h), (1, .int (nI w)), (2, .int (nI u))]) hx hb dX1_findNeeded_21 rfl hl (by decide) rfl (fun ls hl => ?_)
        refine lv_iconst (v := nI 0) hx hb dX1_findNeeded_22 (by decide) ?_
        refine lv_istore (lv' := [(4, .int (nI 0)), (3, .int (nI 100)), (0, .ref h), (1, .int (nI w)), (2, .int (nI u))]) hx hb dX1_findNeeded_23 hl (by decide) rfl (fun ls hl => ?_)
        have loop25 : ∀ (n2 : Nat) (g : Nat) (rG : Nat → Nat → Int32) (H : Heap) (locs : List Loc) (ls : Array Slot), (N < g + n2) → (g ≤ N) → (∀ j, j ≠ 17 → rG j = rL j) → iG wX DD dd AA s.heap h a f rG H locs → lv_has ls 6 [(0, .ref h), (1, .int (nI w)), (2, .int (nI u)), (3, .int (nI (cbLeast ok V g))), (4, .int (nI g))] → W p l ee (rmK 1) s m args below meth cd H locs 0 0 Q (F0 m 25 ls []) := by
          intro n2
          induction n2 with
          | zero =>
            intros; exfalso; omega
          | succ n2 ih2 =>
            intro g rG H locs ls h3 h4 hrG I hl
            have hlg : cbLeast ok V g ≤ 100 := cbLeast_le _ _ _
            refine lv_iload hx hb dX1_findNeeded_25 (lv_at hl 4 rfl) ?_
            refine lv_aload_n hx hb dX1_findNeeded_27 rfl (lv_at hl 0 rfl) ?_
            refine gX_2 C I (v := nI (N)) (e2) dX1_findNeeded_28 ?_
            refine n_icge (tgt := 76) hx hb (by omega) (by omega) dX1_findNeeded_31 (by decide) (fun c31 => ?_) (fun c31 => ?_)
            · have e9 : N = g := by omega
              subst e9
              refine lv_aload_n hx hb dX1_findNeeded_76 rfl (lv_at hl 0 rfl) ?_
              refine gX_16 C I dX1_findNeeded_77 ?_
              refine lv_iload_n hx hb dX1_findNeeded_80 rfl (lv_at hl 2 rfl) ?_
              refine lv_iload_n hx hb dX1_findNeeded_81 rfl (lv_at hl 3 rfl) ?_
              refine stX_16 C I (u) (rfl) (by omega) dX1_findNeeded_82 (fun H locs rU erU orU I => ?_)
              refine lv_iinc (v := nI (u + 1)) (lv' := [(2, .int (nI (u + 1))), (0, .ref h), (1, .int (nI w)), (3, .int (nI (cbLeast ok V N))), (4, .int (nI N))]) hx hb dX1_findNeeded_83 hl (k := 2) rfl (nI_1 _) (by decide) rfl (fun ls hl => ?_)
              refine lv_goto (tgt := 9) hx hb dX1_findNeeded_86 (by decide) ?_
              refine ih (u + 1) _ _ _ _ (by omega) (by omega) (by omega) (fun j j1 j2 => by rw [orU j j1, hrG j j2, hrL j j1 j2]) ?_ I (lv_sub hl [1, 2, 0] rfl)
              intro t ht
              rw [erU]
              by_cases he : t = u
              · subst he
                rw [pk_us, hTd, cbT_s _ _ _ _ _ _ h0, ← hTd, hok, hV]; rfl
              · rw [pk_un he, hrG 16 (by decide)]; exact hTL t (by omega)
            · refine lv_iload_n hx hb dX1_findNeeded_34 rfl (lv_at hl 1 rfl) ?_
              refine n_ifeq (tgt := 48) hx hb (by omega) dX1_findNeeded_35 (by decide) (fun c35 => ?_) (fun c35 => ?_)
              · have hokg : ok g = true := by rw [hok]; simp [cbOkG, c35]
                refine lv_aload_n hx hb dX1_findNeeded_48 rfl (lv_at hl 0 rfl) ?_
                refine lv_iload_n hx hb dX1_findNeeded_49 rfl (lv_at hl 2 rfl) ?_
                refine lv_iload hx hb dX1_findNeeded_50 (lv_at hl 4 rfl) ?_
                refine mG_call (q := (RX1, TX1, 18)) (ci := 0) C I (metX_neededWith l DD dd h a f rG u g (A g) T e0 hL4 e13 hF (by omega) (by omega) (fun k hk => by rw [hrG 15 (by decide), hrL 15 (by decide) (by decide)]; exact hA g k c31 hk) (fun t ht => ⟨by rw [hrG 16 (by decide)]; exact hTL t ht, by rw [hTd]; exact cbT_le _ _ _ _ _ _ _⟩)) ⟨_, rfl⟩ rfl cwX_XneededWith cdX_neededWith ⟨Nat.le_of_ble_eq_true rfl, Nat.le_of_ble_eq_true rfl⟩ ⟨rfl, rfl⟩ rfl hl.1 (Nat.le_of_ble_eq_true rfl) dX1_findNeeded_52 ⟨Nat.zero_le _, Nat.zero_le _⟩ rfl (fun vW fW rW H locs hpW I => ?_)
                obtain ⟨evW, efW, orW⟩ := hpW
                have evW : vW = nI (V g) := by rw [evW, hV]
                subst evW
                rw [efW] at I
                have hVg : V g ≤ 101 := by
                  rw [hV]
                  show cbMax _ F + 1 ≤ 101
                  have := cbMax_bound (F := cbHere (A g) F (10 * L) T u) (b := 100) (n := F) (fun k _ => cbHere_le (fun t _ => by rw [hTd]; exact cbT_le _ _ _ _ _ _ _) k)
                  omega
                have hq : ∀ j, j ≠ 17 → rW j = rL j := fun j hj => (orW j hj).trans (hrG j hj)
                refine lv_istore (lv' := [(5, .int (nI (V g))), (0, .ref h), (1, .int (nI w)), (2, .int (nI u)), (3, .int (nI (cbLeast ok V g))), (4, .int (nI g))]) hx hb dX1_findNeeded_55 hl (by decide) rfl (fun ls hl => ?_)
                refine lv_iload hx hb dX1_findNeeded_57 (lv_at hl 0 rfl) ?_
                refine lv_iload_n hx hb dX1_findNeeded_59 rfl (lv_at hl 4 rfl) ?_
                have join69 : W p l ee (rmK 1) s m args below meth cd H locs 0 0 Q (F0 m 69 ls [.int (nI (cbLeast ok V (g + 1)))]) := by
                  refine lv_istore_n (lv' := [(3, .int (nI (cbLeast ok V (g + 1)))), (5, .int (nI (V g))), (0, .ref h), (1, .int (nI w)), (2, .int (nI u)), (4, .int (nI g))]) hx hb dX1_findNeeded_69 rfl hl (by decide) rfl (fun ls hl => ?_)
                  refine lv_iinc (v := nI (g + 1)) (lv' := [(4, .int (nI (g + 1))), (3, .int (nI (cbLeast ok V (g + 1)))), (5, .int (nI (V g))), (0, .ref h), (1, .int (nI w)), (2, .int (nI u))]) hx hb dX1_findNeeded_70 hl (k := 5) rfl (nI_1 _) (by decide) rfl (fun ls hl => ?_)
                  refine lv_goto (tgt := 25) hx hb dX1_findNeeded_73 (by decide) ?_
                  exact ih2 (g + 1) _ _ _ _ (by omega) (by omega) hq I (lv_sub hl [3, 4, 5, 1, 0] rfl)
                refine n_icge (tgt := 68) hx hb (by omega) (by omega) dX1_findNeeded_60 (by decide) (fun c60 => ?_) (fun c60 => ?_)
                · refine lv_iload_n hx hb dX1_findNeeded_68 rfl (lv_at hl 4 rfl) ?_
                  refine w_top (v := nI (cbLeast ok V (g + 1))) (by rw [cbLeast_n hokg c60]) ?_
                  exact join69
                · refine lv_iload hx hb dX1_findNeeded_63 (lv_at hl 0 rfl) ?_
                  refine lv_goto (tgt := 69) hx hb dX1_findNeeded_65 (by decide) ?_
                  refine w_top (v := nI (cbLeast ok V (g + 1))) (by rw [cbLeast_t hokg c60]) ?_
                  exact join69
              · refine lv_aload_n hx hb dX1_findNeeded_38 rfl (lv_at hl 0 rfl) ?_
                refine lv_iload_n hx hb dX1_findNeeded_39 rfl (lv_at hl 2 rfl) ?_
                refine lv_iload hx hb dX1_findNeeded_40 (lv_at hl 4 rfl) ?_
                refine mG_call (q := (RX1, TX1, 18)) (ci := 0) C I (metX_isOf l DD dd h a f rG u g fc e13 hF (by omega) (by omega) (fun k hk => by rw [hrG 14 (by decide), hrL 14 (by decide) (by decide)]; exact hfc k hk)) ⟨_, rfl⟩ rfl cwX_XisOf cdX_isOf ⟨Nat.le_of_ble_eq_true rfl, Nat.le_of_ble_eq_true rfl⟩ ⟨rfl, rfl⟩ rfl hl.1 (Nat.le_of_ble_eq_true rfl) dX1_findNeeded_42 ⟨Nat.zero_le _, Nat.zero_le _⟩ rfl (fun v1 f1 r1 H locs hp1 I => ?_)
                obtain ⟨ev1, ef1, er1⟩ := hp1
                subst ev1
                rw [ef1, er1] at I
                refine n_ifeq (tgt := 70) hx hb (Nat.lt_of_le_of_lt (Bool.toNat_le _) (by decide)) dX1_findNeeded_45 (by decide) (fun c45 => ?_) (fun c45 => ?_)
                · have hokg : ok g = false := by rw [hok]; unfold cbOkG; cases hc : cbIn fc F u g <;> simp_all
                  rw [← cbLeast_f hokg] at hl
                  have hq := hrG
                  refine lv_iinc (v := nI (g + 1)) (lv' := [(4, .int (nI (g + 1))), (0, .ref h), (1, .int (nI w)), (2, .int (nI u)), (3, .int (nI (cbLeast ok V (g + 1))))]) hx hb dX1_findNeeded_70 hl (k := 4) rfl (nI_1 _) (by decide) rfl (fun ls hl => ?_)
                  refine lv_goto (tgt := 25) hx hb dX1_findNeeded_73 (by decide) ?_
                  exact ih2 (g + 1) _ _ _ _ (by omega) (by omega) hq I (lv_sub hl [1, 2, 3, 4, 0] rfl)
                · have hokg : ok g = true := by rw [hok]; unfold cbOkG; cases hc : cbIn fc F u g <;> simp_all
                  refine lv_aload_n hx hb dX1_findNeeded_48 rfl (lv_at hl 0 rfl) ?_
                  refine lv_iload_n hx hb dX1_findNeeded_49 rfl (lv_at hl 2 rfl) ?_
                  refine lv_iload hx hb dX1_findNeeded_50 (lv_at hl 4 rfl) ?_
                  refine mG_call (q := (RX1, TX1, 18)) (ci := 0) C I (metX_neededWith l DD dd h a f rG u g (A g) T e0 hL4 e13 hF (by omega) (by omega) (fun k hk => by rw [hrG 15 (by decide), hrL 15 (by decide) (by decide)]; exact hA g k c31 hk) (fun t ht => ⟨by rw [hrG 16 (by decide)]; exact hTL t ht, by rw [hTd]; exact cbT_le _ _ _ _ _ _ _⟩)) ⟨_, rfl⟩ rfl cwX_XneededWith cdX_neededWith ⟨Nat.le_of_ble_eq_true rfl, Nat.le_of_ble_eq_true rfl⟩ ⟨rfl, rfl⟩ rfl hl.1 (Nat.le_of_ble_eq_true rfl) dX1_findNeeded_52 ⟨Nat.zero_le _, Nat.zero_le _⟩ rfl (fun vW fW rW H locs hpW I => ?_)
                  obtain ⟨evW, efW, orW⟩ := hpW
                  have evW : vW = nI (V g) := by rw [evW, hV]
                  subst evW
                  rw [efW] at I
                  have hVg : V g ≤ 101 := by
                    rw [hV]
                    show cbMax _ F + 1 ≤ 101
                    have := cbMax_bound (F := cbHere (A g) F (10 * L) T u) (b := 100) (n := F) (fun k _ => cbHere_le (fun t _ => by rw [hTd]; exact cbT_le _ _ _ _ _ _ _) k)
                    omega
                  have hq : ∀ j, j ≠ 17 → rW j = rL j := fun j hj => (orW j hj).trans (hrG j hj)
                  refine lv_istore (lv' := [(5, .int (nI (V g))), (0, .ref h), (1, .int (nI w)), (2, .int (nI u)), (3, .int (nI (cbLeast ok V g))), (4, .int (nI g))]) hx hb dX1_findNeeded_55 hl (by decide) rfl (fun ls hl => ?_)
                  refine lv_iload hx hb dX1_findNeeded_57 (lv_at hl 0 rfl) ?_
                  refine lv_iload_n hx hb dX1_findNeeded_59 rfl (lv_at hl 4 rfl) ?_
                  have join69 : W p l ee (rmK 1) s m args below meth cd H locs 0 0 Q (F0 m 69 ls [.int (nI (cbLeast ok V (g + 1)))]) := by
                    refine lv_istore_n (lv' := [(3, .int (nI (cbLeast ok V (g + 1)))), (5, .int (nI (V g))), (0, .ref h), (1, .int (nI w)), (2, .int (nI u)), (4, .int (nI g))]) hx hb dX1_findNeeded_69 rfl hl (by decide) rfl (fun ls hl => ?_)
                    refine lv_iinc (v := nI (g + 1)) (lv' := [(4, .int (nI (g + 1))), (3, .int (nI (cbLeast ok V (g + 1)))), (5, .int (nI (V g))), (0, .ref h), (1, .int (nI w)), (2, .int (nI u))]) hx hb dX1_findNeeded_70 hl (k := 5) rfl (nI_1 _) (by decide) rfl (fun ls hl => ?_)
                    refine lv_goto (tgt := 25) hx hb dX1_findNeeded_73 (by decide) ?_
                    exact ih2 (g + 1) _ _ _ _ (by omega) (by omega) hq I (lv_sub hl [3, 4, 5, 1, 0] rfl)
                  refine n_icge (tgt := 68) hx hb (by omega) (by omega) dX1_findNeeded_60 (by decide) (fun c60 => ?_) (fun c60 => ?_)
                  · refine lv_iload_n hx hb dX1_findNeeded_68 rfl (lv_at hl 4 rfl) ?_
                    refine w_top (v := nI (cbLeast ok V (g + 1))) (by rw [cbLeast_n hokg c60]) ?_
                    exact join69
                  · refine lv_iload hx hb dX1_findNeeded_63 (lv_at hl 0 rfl) ?_
                    refine lv_goto (tgt := 69) hx hb dX1_findNeeded_65 (by decide) ?_
                    refine w_top (v := nI (cbLeast ok V (g + 1))) (by rw [cbLeast_t hokg c60]) ?_
                    exact join69
        exact loop25 (N + 1) 0 _ _ _ _ (by omega) (by omega) (fun _ _ => rfl) I (lv_sub hl [2, 3, 4, 1, 0] rfl)
  exact loop9 (2 ^ F + 1) 1 _ _ _ _ (by omega) (by omega) (by omega) (fun j j1 _ => or0 j j1) (fun t ht => by rw [show t = 0 by omega, er0, pk_us, hTd]; rfl) I (lv_sub hl [1, 2, 0] rfl)
set_option maxHeartbeats 4000000 in
set_option maxRecDepth 100000 in
theorem metX_needBy (l : Launch) (DD : va_G) (dd : ClassId) (h : Nat) (a : Nat → Nat) (f : Nat → Int32) (r : Nat → Nat → Int32) {L D N c : Nat} {G B : Nat → Nat} (w : Nat) (sx : stX L D N c G B f r) (hw : w ≤ 1) : mG l wX yX1_needBy cX1_needBy 3 .int (rmK 2) DD dd h a f r [.int (nI w)] (fun v f' r' => (v = -4 ∧ 8 < cbCnt (cbPos L D G B c) N ∨ cbCnt (cbPos L D G B c) N ≤ 8 ∧ v = nI ((cbT (fun g k => cbAns L D g (cbSel (cbPos L D G B c) N k)) (cbSel (cbPos L D G B c) N) (cbCnt (cbPos L D G B c) N) (10 * L) N w) (2 ^ cbCnt (cbPos L D G B c) N - 1)) ∧ f' 13 = nI (cbCnt (cbPos L D G B c) N) ∧ (∀ g k, g < N → k < cbCnt (cbPos L D G B c) N → r' 15 (8 * g + k) = nI (cbAns L D g (cbSel (cbPos L D G B c) N k))) ∧ ∀ t, t < 2 ^ cbCnt (cbPos L D G B c) N → r' 16 t = nI ((cbT (fun g k => cbAns L D g (cbSel (cbPos L D G B c) N k)) (cbSel (cbPos L D G B c) N) (cbCnt (cbPos L D G B c) N) (10 * L) N w) t)) ∧ stX L D N c G B f' r') := by
  refine mG_start (by decide) (Nat.le_of_ble_eq_true rfl) ?_
  intro p ee s m args below meth cd AA Q ls C I hl ret
  have hx := C.1
  have hb := C.2.1
  have hl : lv_has ls 3 [(0, .ref h), (1, .int (nI w))] := hl
  have gm := sx.1
  obtain ⟨hL1, hL4, hD1, hD3, hN1, hN81, hNe⟩ := gm.1
  have hc8 := sx.2.1
  have hf5 := sx.2.2.1
  have hGB := sx.2.2.2.1
  have hbad := sx.2.2.2.2
  refine lv_aload_n hx hb dX1_needBy_0 rfl (lv_at hl 0 rfl) ?_
  refine mG_call (q := (RX1, TX1, 18)) (ci := 0) C I (metX_countPossible l DD dd h a f r sx) ⟨_, rfl⟩ rfl cwX_XcountPossible cdX_countPossible ⟨Nat.le_of_ble_eq_true rfl, Nat.le_of_ble_eq_true rfl⟩ ⟨rfl, rfl⟩ rfl hl.1 (Nat.le_of_ble_eq_true rfl) dX1_needBy_1 ⟨Nat.zero_le _, Nat.zero_le _⟩ rfl (fun v1 f1 r1 H locs hp1 I => ?_)
  obtain ⟨ev1, ef1, er1⟩ := hp1
  subst ev1
  rw [ef1, er1] at I
  refine lv_istore_n (lv' := [(2, .int (nI (cbCnt (cbPos L D G B c) N))), (0, .ref h), (1, .int (nI w))]) hx hb dX1_needBy_4 rfl hl (by decide) rfl (fun ls hl => ?_)
  refine lv_iload_n hx hb dX1_needBy_5 rfl (lv_at hl 0 rfl) ?_
  refine lv_bipush (v := nI 8) hx hb dX1_needBy_6 (by decide) ?_
  refine n_icle (tgt := 14) hx hb (Nat.lt_of_le_of_lt (cbCnt_le _ _) (by omega)) (by omega) dX1_needBy_8 (by decide) (fun c8 => ?_) (fun c8 => ?_)
  · refine lv_aload_n hx hb dX1_needBy_14 rfl (lv_at hl 1 rfl) ?_
    refine mGv_call (q := (RX1, TX1, 18)) (ci := 0) C I (metX_listFew l DD dd h a f r sx c8) ⟨_, rfl⟩ rfl cwX_XlistFew cdX_listFew ⟨Nat.le_of_ble_eq_true rfl, Nat.le_of_ble_eq_true rfl⟩ ⟨rfl, rfl⟩ rfl hl.1 (Nat.le_of_ble_eq_true rfl) dX1_needBy_15 ⟨Nat.zero_le _, Nat.zero_le _⟩ rfl (fun fA rA H locs hpA I => ?_)
    obtain ⟨a1, a2, a3, a4, a5⟩ := hpA
    have sxA : stX L D N c G B fA rA := sx.keep (fun k hk => a1 k (by omega)) (fun j hj => a2 j (by omega) (by omega))
    refine lv_aload_n hx hb dX1_needBy_18 rfl (lv_at hl 1 rfl) ?_
    refine lv_iload_n hx hb dX1_needBy_19 rfl (lv_at hl 2 rfl) ?_
    refine mGv_call (q := (RX1, TX1, 18)) (ci := 0) C I (metX_findNeeded l DD dd h a fA rA w (fun g k => cbAns L D g (cbSel (cbPos L D G B c) N k)) (cbSel (cbPos L D G B c) N) sxA.1.2.1 hL4 sxA.1.2.2.2.1 hN81 a3 c8 hw (fun k hk => ⟨a4 k hk, Nat.lt_of_lt_of_le (cbSel_lt hk) hN81⟩) (fun g k hg hk => ⟨a5 g k hg hk, cbAns_lt hD1 hL4 _ _⟩)) ⟨_, rfl⟩ rfl cwX_XfindNeeded cdX_findNeeded ⟨Nat.le_of_ble_eq_true rfl, Nat.le_of_ble_eq_true rfl⟩ ⟨rfl, rfl⟩ rfl hl.1 (Nat.le_of_ble_eq_true rfl) dX1_needBy_20 ⟨Nat.zero_le _, Nat.zero_le _⟩ rfl (fun fB rB H locs hpB I => ?_)
    obtain ⟨b1, b2, b3⟩ := hpB
    rw [b1] at I
    have sxB : stX L D N c G B fA rB := sxA.keep (fun _ _ => rfl) (fun j hj => b2 j (by omega) (by omega))
    have h2F := cb_pow8 c8
    have h2p : 1 ≤ 2 ^ cbCnt (cbPos L D G B c) N := Nat.one_le_two_pow
    refine lv_aload_n hx hb dX1_needBy_23 rfl (lv_at hl 1 rfl) ?_
    refine gX_16 C I dX1_needBy_24 ?_
    refine lv_iconst (v := nI 1) hx hb dX1_needBy_27 (by decide) ?_
    refine lv_aload_n hx hb dX1_needBy_28 rfl (lv_at hl 1 rfl) ?_
    refine gX_13 C I (v := nI (cbCnt (cbPos L D G B c) N)) (a3) dX1_needBy_29 ?_
    refine lv_ishl hx hb dX1_needBy_32 ?_
    refine w_top (v := nI (2 ^ cbCnt (cbPos L D G B c) N)) (cb_shlD _ (by omega)) ?_
    refine lv_iconst (v := nI 1) hx hb dX1_needBy_33 (by decide) ?_
    refine n_sub hx hb (by omega) dX1_needBy_34 ?_
    refine ldX_16 C I ((2 ^ cbCnt (cbPos L D G B c) N) - 1) (rfl) (by omega) (v := nI ((cbT (fun g k => cbAns L D g (cbSel (cbPos L D G B c) N k)) (cbSel (cbPos L D G B c) N) (cbCnt (cbPos L D G B c) N) (10 * L) N w) (2 ^ cbCnt (cbPos L D G B c) N - 1))) (b3 _ (by omega)) dX1_needBy_35 ?_
    exact ret _ _ _ _ _ _ _ dX1_needBy_36 (rfl) I (⟨Or.inr ⟨c8, rfl, a3, fun g k hg hk => by rw [b2 15 (by decide) (by decide)]; exact a5 g k hg hk, b3⟩, sxB⟩)
  · refine lv_bipush (v := -4) hx hb dX1_needBy_11 (by decide) ?_
    exact ret _ _ _ _ _ _ _ dX1_needBy_13 (rfl) I (⟨Or.inl ⟨rfl, c8⟩, sx⟩)
set_option maxHeartbeats 4000000 in
set_option maxRecDepth 100000 in
theorem metX_need (l : Launch) (DD : va_G) (dd : ClassId) (h : Nat) (a : Nat → Nat) (f : Nat → Int32) (r : Nat → Nat → Int32) {L D N c : Nat} {G B : Nat → Nat} (sx : stX L D N c G B f r) : mG l wX yX1_need cX1_need 1 .int (rmK 3) DD dd h a f r [] (fun v f' r' => (v = -4 ∧ 8 < cbCnt (cbPos L D G B c) N ∨ cbCnt (cbPos L D G B c) N ≤ 8 ∧ v = nI ((cbT (fun g k => cbAns L D g (cbSel (cbPos L D G B c) N k)) (cbSel (cbPos L D G B c) N) (cbCnt (cbPos L D G B c) N) (10 * L) N 0) (2 ^ cbCnt (cbPos L D G B c) N - 1))) ∧ stX L D N c G B f' r') := by
  refine mG_start (by decide) (Nat.le_of_ble_eq_true rfl) ?_
  intro p ee s m args below meth cd AA Q ls C I hl ret
  have hx := C.1
  have hb := C.2.1
  have hl : lv_has ls 1 [(0, .ref h)] := hl
  refine lv_aload_n hx hb dX1_need_0 rfl (lv_at hl 0 rfl) ?_
  refine lv_iconst (v := nI 0) hx hb dX1_need_1 (by decide) ?_
  refine mG_call (q := (RX1, TX1, 18)) (ci := 0) C I (metX_needBy l DD dd h a f r 0 sx (by decide)) ⟨_, rfl⟩ rfl cwX_XneedBy cdX_needBy ⟨Nat.le_of_ble_eq_true rfl, Nat.le_of_ble_eq_true rfl⟩ ⟨rfl, rfl⟩ rfl hl.1 (Nat.le_of_ble_eq_true rfl) dX1_need_2 ⟨Nat.zero_le _, Nat.zero_le _⟩ rfl (fun vZ fZ rZ H locs hpZ I => ?_)
  exact ret _ _ _ _ _ _ _ dX1_need_5 (rfl) I (⟨hpZ.1.elim Or.inl (fun q => Or.inr ⟨q.1, q.2.1⟩), hpZ.2⟩)
set_option maxHeartbeats 4000000 in
set_option maxRecDepth 100000 in
theorem metX_needKept (l : Launch) (DD : va_G) (dd : ClassId) (h : Nat) (a : Nat → Nat) (f : Nat → Int32) (r : Nat → Nat → Int32) {L D N c : Nat} {G B : Nat → Nat} (sx : stX L D N c G B f r) : mG l wX yX1_needKept cX1_needKept 1 .int (rmK 3) DD dd h a f r [] (fun v f' r' => (v = -4 ∧ 8 < cbCnt (cbPos L D G B c) N ∨ cbCnt (cbPos L D G B c) N ≤ 8 ∧ v = nI ((cbT (fun g k => cbAns L D g (cbSel (cbPos L D G B c) N k)) (cbSel (cbPos L D G B c) N) (cbCnt (cbPos L D G B c) N) (10 * L) N 1) (2 ^ cbCnt (cbPos L D G B c) N - 1))) ∧ stX L D N c G B f' r') := by
  refine mG_start (by decide) (Nat.le_of_ble_eq_true rfl) ?_
  intro p ee s m args below meth cd AA Q ls C I hl ret
  have hx := C.1
  have hb := C.2.1
  have hl : lv_has ls 1 [(0, .ref h)] := hl
  refine lv_aload_n hx hb dX1_needKept_0 rfl (lv_at hl 0 rfl) ?_
  refine lv_iconst (v := nI 1) hx hb dX1_needKept_1 (by decide) ?_
  refine mG_call (q := (RX1, TX1, 18)) (ci := 0) C I (metX_needBy l DD dd h a f r 1 sx (by decide)) ⟨_, rfl⟩ rfl cwX_XneedBy cdX_needBy ⟨Nat.le_of_ble_eq_true rfl, Nat.le_of_ble_eq_true rfl⟩ ⟨rfl, rfl⟩ rfl hl.1 (Nat.le_of_ble_eq_true rfl) dX1_needKept_2 ⟨Nat.zero_le _, Nat.zero_le _⟩ rfl (fun vZ fZ rZ H locs hpZ I => ?_)
  exact ret _ _ _ _ _ _ _ dX1_needKept_5 (rfl) I (⟨hpZ.1.elim Or.inl (fun q => Or.inr ⟨q.1, q.2.1⟩), hpZ.2⟩)
set_option maxHeartbeats 4000000 in
set_option maxRecDepth 100000 in
theorem metX_first (l : Launch) (DD : va_G) (dd : ClassId) (h : Nat) (a : Nat → Nat) (f : Nat → Int32) (r : Nat → Nat → Int32) {L D N c : Nat} {G B : Nat → Nat} (sx : stX L D N c G B f r) : mG l wX yX1_first cX1_first 4 .int (rmK 3) DD dd h a f r [] (fun v f' r' => (v = -4 ∧ 8 < cbCnt (cbPos L D G B c) N ∨ cbCnt (cbPos L D G B c) N ≤ 8 ∧ ((cbT (fun g k => cbAns L D g (cbSel (cbPos L D G B c) N k)) (cbSel (cbPos L D G B c) N) (cbCnt (cbPos L D G B c) N) (10 * L) N 0) (2 ^ cbCnt (cbPos L D G B c) N - 1) = 0 ∧ v = -3 ∨ 0 < (cbT (fun g k => cbAns L D g (cbSel (cbPos L D G B c) N k)) (cbSel (cbPos L D G B c) N) (cbCnt (cbPos L D G B c) N) (10 * L) N 0) (2 ^ cbCnt (cbPos L D G B c) N - 1) ∧ v = cbFind (fun g => decide (cbNW (fun k => cbAns L D g (cbSel (cbPos L D G B c) N k)) (cbCnt (cbPos L D G B c) N) (10 * L) (cbT (fun g k => cbAns L D g (cbSel (cbPos L D G B c) N k)) (cbSel (cbPos L D G B c) N) (cbCnt (cbPos L D G B c) N) (10 * L) N 0) (2 ^ cbCnt (cbPos L D G B c) N - 1) = (cbT (fun g k => cbAns L D g (cbSel (cbPos L D G B c) N k)) (cbSel (cbPos L D G B c) N) (cbCnt (cbPos L D G B c) N) (10 * L) N 0) (2 ^ cbCnt (cbPos L D G B c) N - 1))) N 0)) ∧ stX L D N c G B f' r') := by
  refine mG_start (by decide) (Nat.le_of_ble_eq_true rfl) ?_
  intro p ee s m args below meth cd AA Q ls C I hl ret
  have hx := C.1
  have hb := C.2.1
  have hl : lv_has ls 4 [(0, .ref h)] := hl
  have gm := sx.1
  obtain ⟨hL1, hL4, hD1, hD3, hN1, hN81, hNe⟩ := gm.1
  have hc8 := sx.2.1
  have hf5 := sx.2.2.1
  have hGB := sx.2.2.2.1
  have hbad := sx.2.2.2.2
  refine lv_aload_n hx hb dX1_first_0 rfl (lv_at hl 0 rfl) ?_
  refine lv_iconst (v := nI 0) hx hb dX1_first_1 (by decide) ?_
  refine mG_call (q := (RX1, TX1, 18)) (ci := 0) C I (metX_needBy l DD dd h a f r 0 sx (by decide)) ⟨_, rfl⟩ rfl cwX_XneedBy cdX_needBy ⟨Nat.le_of_ble_eq_true rfl, Nat.le_of_ble_eq_true rfl⟩ ⟨rfl, rfl⟩ rfl hl.1 (Nat.le_of_ble_eq_true rfl) dX1_first_2 ⟨Nat.zero_le _, Nat.zero_le _⟩ rfl (fun vZ fZ rZ H locs hpZ I => ?_)
  obtain ⟨hz, sxZ⟩ := hpZ
  refine lv_istore_n (lv' := [(1, .int (vZ)), (0, .ref h)]) hx hb dX1_first_5 rfl hl (by decide) rfl (fun ls hl => ?_)
  refine lv_iload_n hx hb dX1_first_6 rfl (lv_at hl 0 rfl) ?_
  refine lv_if_gt (tgt := 21) hx hb dX1_first_7 (by decide) (fun c7 => ?_) (fun c7 => ?_)
  · obtain ⟨F, hF⟩ : ∃ F, F = cbCnt (cbPos L D G B c) N := ⟨_, rfl⟩
    obtain ⟨T, hT⟩ : ∃ T, T = (cbT (fun g k => cbAns L D g (cbSel (cbPos L D G B c) N k)) (cbSel (cbPos L D G B c) N) (cbCnt (cbPos L D G B c) N) (10 * L) N 0) := ⟨_, rfl⟩
    rw [← hT, ← hF] at hz
    have hz2 : F ≤ 8 ∧ vZ = nI (T (2 ^ F - 1)) ∧ fZ 13 = nI F ∧ (∀ g k, g < N → k < F → rZ 15 (8 * g + k) = nI (cbAns L D g (cbSel (cbPos L D G B c) N k))) ∧ ∀ t, t < 2 ^ F → rZ 16 t = nI (T t) := by
      rcases hz with ⟨q, -⟩ | q
      · rw [q] at c7; exact absurd c7 (by decide)
      · exact q
    obtain ⟨hF8, rfl, z13, z15, z16⟩ := hz2
    have hT0 : 0 < T (2 ^ F - 1) := by
      rcases Nat.eq_zero_or_pos (T (2 ^ F - 1)) with q | q
      · rw [q] at c7; exact absurd c7 (by decide)
      · exact q
    have hTle : ∀ t, T t ≤ 100 := fun t => by rw [hT]; exact cbT_le _ _ _ _ _ _ _
    have hTw := hTle (2 ^ F - 1)
    have h2F := cb_pow8 hF8
    have h2p : 1 ≤ 2 ^ F := Nat.one_le_two_pow
    obtain ⟨K, hK⟩ : ∃ K : Nat → Bool, K = (fun g => decide (cbNW (fun k => cbAns L D g (cbSel (cbPos L D G B c) N k)) F (10 * L) T (2 ^ F - 1) = T (2 ^ F - 1))) := ⟨_, rfl⟩
    obtain ⟨res, hres⟩ : ∃ z, z = cbFind K N 0 := ⟨_, rfl⟩
    refine lv_iconst (v := nI 0) hx hb dX1_first_21 (by decide) ?_
    refine lv_istore_n (lv' := [(2, .int (nI 0)), (1, .int (nI (T (2 ^ F - 1)))), (0, .ref h)]) hx hb dX1_first_22 rfl hl (by decide) rfl (fun ls hl => ?_)
    have loop23 : ∀ (n : Nat) (g : Nat) (rL : Nat → Nat → Int32) (H : Heap) (locs : List Loc) (ls : Array Slot), (N < g + n) → (g ≤ N) → (∀ j, j ≠ 17 → rL j = rZ j) → (cbFind K (N - g) g = res) → iG wX DD dd AA s.heap h a fZ rL H locs → lv_has ls 4 [(0, .ref h), (1, .int (nI (T (2 ^ F - 1)))), (2, .int (nI g))] → W p l ee (rmK 3) s m args below meth cd H locs 0 0 Q (F0 m 23 ls []) := by
      intro n
      induction n with
      | zero =>
        intros; exfalso; omega
      | succ n ih =>
        intro g rL H locs ls h1 h2 hrL h3 I hl
        refine lv_iload_n hx hb dX1_first_23 rfl (lv_at hl 2 rfl) ?_
        refine lv_aload_n hx hb dX1_first_24 rfl (lv_at hl 0 rfl) ?_
        refine gX_2 C I (v := nI (N)) (sxZ.1.2.2.2.1) dX1_first_25 ?_
        refine n_icge (tgt := 58) hx hb (by omega) (by omega) dX1_first_28 (by decide) (fun c28 => ?_) (fun c28 => ?_)
        · refine lv_bipush (v := -3) hx hb dX1_first_58 (by decide) ?_
          exact ret _ _ _ _ _ _ _ dX1_first_60 (rfl) I (by
            refine ⟨Or.inr ⟨by rw [← hF]; exact hF8, Or.inr ⟨by rw [← hT, ← hF]; exact hT0, ?_⟩⟩, sxZ.keep (fun _ _ => rfl) (fun j hj => hrL j (by omega))⟩
            rw [← hT, ← hF, ← hK, ← hres, ← h3, show N - g = 0 by omega]; rfl)
        · have eN : N - g = (N - (g + 1)) + 1 := by omega
          rw [eN] at h3
          refine lv_aload_n hx hb dX1_first_31 rfl (lv_at hl 0 rfl) ?_
          refine lv_iconst (v := nI 1) hx hb dX1_first_32 (by decide) ?_
          refine lv_aload_n hx hb dX1_first_33 rfl (lv_at hl 0 rfl) ?_
          refine gX_13 C I (v := nI (F)) (z13) dX1_first_34 ?_
          refine lv_ishl hx hb dX1_first_37 ?_
          refine w_top (v := nI (2 ^ F)) (cb_shlD _ (by omega)) ?_
          refine lv_iconst (v := nI 1) hx hb dX1_first_38 (by decide) ?_
          refine n_sub hx hb (by omega) dX1_first_39 ?_
          refine lv_iload_n hx hb dX1_first_40 rfl (lv_at hl 2 rfl) ?_
          refine mG_call (q := (RX1, TX1, 18)) (ci := 0) C I (metX_neededWith l DD dd h a fZ rL (2 ^ F - 1) g (fun k => cbAns L D g (cbSel (cbPos L D G B c) N k)) T sxZ.1.2.1 hL4 z13 hF8 (by omega) (by omega) (fun k hk => ⟨by rw [hrL 15 (by decide)]; exact z15 g k c28 hk, cbAns_lt hD1 hL4 _ _⟩) (fun t ht => ⟨by rw [hrL 16 (by decide)]; exact z16 t (by omega), hTle t⟩)) ⟨_, rfl⟩ rfl cwX_XneededWith cdX_neededWith ⟨Nat.le_of_ble_eq_true rfl, Nat.le_of_ble_eq_true rfl⟩ ⟨rfl, rfl⟩ rfl hl.1 (Nat.le_of_ble_eq_true rfl) dX1_first_41 ⟨Nat.zero_le _, Nat.zero_le _⟩ rfl (fun vW fW rW H locs hpW I => ?_)
          obtain ⟨evW, efW, orW⟩ := hpW
          rw [efW] at I
          obtain ⟨x, hx9⟩ : ∃ x, x = cbNW (fun k => cbAns L D g (cbSel (cbPos L D G B c) N k)) F (10 * L) T (2 ^ F - 1) := ⟨_, rfl⟩
          have hxl : x ≤ 101 := by
            rw [hx9]
            show cbMax _ F + 1 ≤ 101
            have := cbMax_bound (F := cbHere (fun k => cbAns L D g (cbSel (cbPos L D G B c) N k)) F (10 * L) T (2 ^ F - 1)) (b := 100) (n := F) (fun k _ => cbHere_le (fun t _ => hTle t) k)
            omega
          rw [← hx9] at evW
          subst evW
          refine lv_istore_n (lv' := [(3, .int (nI x)), (0, .ref h), (1, .int (nI (T (2 ^ F - 1)))), (2, .int (nI g))]) hx hb dX1_first_44 rfl hl (by decide) rfl (fun ls hl => ?_)
          refine lv_iload_n hx hb dX1_first_45 rfl (lv_at hl 0 rfl) ?_
          refine lv_iload_n hx hb dX1_first_46 rfl (lv_at hl 2 rfl) ?_
          refine n_icne (tgt := 52) hx hb (by omega) (by omega) dX1_first_47 (by decide) (fun c47 => ?_) (fun c47 => ?_)
          · have hk9 : K g = false := by rw [hK]; show decide (_ = _) = false; rw [← hx9]; exact decide_eq_false c47
            have h9 : cbFind K (N - (g + 1)) (g + 1) = res := by rw [← h3, cbFind_f hk9]
            refine lv_iinc (v := nI (g + 1)) (lv' := [(2, .int (nI (g + 1))), (3, .int (nI x)), (0, .ref h), (1, .int (nI (T (2 ^ F - 1))))]) hx hb dX1_first_52 hl (k := 3) rfl (nI_1 _) (by decide) rfl (fun ls hl => ?_)
            refine lv_goto (tgt := 23) hx hb dX1_first_55 (by decide) ?_
            exact ih (g + 1) _ _ _ _ (by omega) (by omega) (fun j hj => (orW j hj).trans (hrL j hj)) h9 I (lv_sub hl [2, 3, 0] rfl)
          · have hk9 : K g = true := by rw [hK]; show decide (_ = _) = true; rw [← hx9]; exact decide_eq_true c47
            refine lv_iload_n hx hb dX1_first_50 rfl (lv_at hl 3 rfl) ?_
            exact ret _ _ _ _ _ _ _ dX1_first_51 (rfl) I (by
              refine ⟨Or.inr ⟨by rw [← hF]; exact hF8, Or.inr ⟨by rw [← hT, ← hF]; exact hT0, ?_⟩⟩, sxZ.keep (fun _ _ => rfl) (fun j hj => (orW j (by omega)).trans (hrL j (by omega)))⟩
              rw [← hT, ← hF, ← hK, ← hres, ← h3, cbFind_t hk9])
    exact loop23 (N + 1) 0 _ _ _ _ (by omega) (by omega) (fun _ _ => rfl) hres.symm I (lv_sub hl [2, 1, 0] rfl)
  · refine lv_iload_n hx hb dX1_first_10 rfl (lv_at hl 0 rfl) ?_
    refine lv_if_ne (tgt := 19) hx hb dX1_first_11 (by decide) (fun c11 => ?_) (fun c11 => ?_)
    · have hq : vZ = -4 ∧ 8 < cbCnt (cbPos L D G B c) N := by
        rcases hz with q | ⟨-, q, -⟩
        · exact q
        · rw [q] at c7 c11
          have := cbT_le (fun g k => cbAns L D g (cbSel (cbPos L D G B c) N k)) (cbSel (cbPos L D G B c) N) (cbCnt (cbPos L D G B c) N) (10 * L) N 0 (2 ^ cbCnt (cbPos L D G B c) N - 1)
          exact absurd (nI_lt (a := 0) (Nat.pos_of_ne_zero (fun z => c11 (by rw [z]; rfl))) (by omega)) c7
      refine lv_iload_n hx hb dX1_first_19 rfl (lv_at hl 0 rfl) ?_
      exact ret _ _ _ _ _ _ _ dX1_first_20 (rfl) I (by first | exact ⟨Or.inl hq, sxZ⟩ | exact ⟨Or.inr ⟨hq.1, Or.inl ⟨hq.2, rfl⟩⟩, sxZ⟩)
    · have hq : cbCnt (cbPos L D G B c) N ≤ 8 ∧ (cbT (fun g k => cbAns L D g (cbSel (cbPos L D G B c) N k)) (cbSel (cbPos L D G B c) N) (cbCnt (cbPos L D G B c) N) (10 * L) N 0) (2 ^ cbCnt (cbPos L D G B c) N - 1) = 0 := by
        rcases hz with ⟨q, -⟩ | ⟨q1, q, -⟩
        · rw [q] at c11; exact absurd c11 (by decide)
        · rw [q] at c11
          have := cbT_le (fun g k => cbAns L D g (cbSel (cbPos L D G B c) N k)) (cbSel (cbPos L D G B c) N) (cbCnt (cbPos L D G B c) N) (10 * L) N 0 (2 ^ cbCnt (cbPos L D G B c) N - 1)
          exact ⟨q1, (nI_eq (b := 0) (by omega) (by decide)).mp c11⟩
      refine lv_bipush (v := -3) hx hb dX1_first_14 (by decide) ?_
      refine lv_goto (tgt := 20) hx hb dX1_first_16 (by decide) ?_
      exact ret _ _ _ _ _ _ _ dX1_first_20 (rfl) I (by first | exact ⟨Or.inl hq, sxZ⟩ | exact ⟨Or.inr ⟨hq.1, Or.inl ⟨hq.2, rfl⟩⟩, sxZ⟩)
end
section
set_option maxRecDepth 100000
set_option maxHeartbeats 4000000 in
set_option maxRecDepth 100000 in
theorem metM_codes (l : Launch) (DD : va_G) (dd : ClassId) (h : Nat) (a : Nat → Nat) (f : Nat → Int32) (r : Nat → Nat → Int32) {L D N : Nat} (gm : geoM L D N f r) : mG l wM yX2_codes cX2_codes 1 .int (rmK 0) DD dd h a f r [] (fun v f' r' => v = nI N ∧ f' = f ∧ r' = r) := by
  refine mG_start (by decide) (Nat.le_of_ble_eq_true rfl) ?_
  intro p ee s m args below meth cd AA Q ls C I hl ret
  have hx := C.1
  have hb := C.2.1
  have hl : lv_has ls 1 [(0, .ref h)] := hl
  refine lv_aload_n hx hb dX2_codes_0 rfl (lv_at hl 0 rfl) ?_
  refine gM_2 C I (v := nI (N)) (gm.2.2.2) dX2_codes_1 ?_
  exact ret _ _ _ _ _ _ _ dX2_codes_4 (rfl) I (⟨rfl, rfl, rfl⟩)
set_option maxHeartbeats 4000000 in
set_option maxRecDepth 100000 in
theorem metM_told (l : Launch) (DD : va_G) (dd : ClassId) (h : Nat) (a : Nat → Nat) (f : Nat → Int32) (r : Nat → Nat → Int32) {L D N c : Nat} {G B : Nat → Nat} (sx : stM L D N c G B f r) : mG l wM yX2_told cX2_told 1 .int (rmK 0) DD dd h a f r [] (fun v f' r' => v = nI c ∧ f' = f ∧ r' = r) := by
  refine mG_start (by decide) (Nat.le_of_ble_eq_true rfl) ?_
  intro p ee s m args below meth cd AA Q ls C I hl ret
  have hx := C.1
  have hb := C.2.1
  have hl : lv_has ls 1 [(0, .ref h)] := hl
  refine lv_aload_n hx hb dX2_told_0 rfl (lv_at hl 0 rfl) ?_
  refine gM_5 C I (v := nI (c)) (sx.2.2.2.1) dX2_told_1 ?_
  exact ret _ _ _ _ _ _ _ dX2_told_4 (rfl) I (⟨rfl, rfl, rfl⟩)
set_option maxHeartbeats 4000000 in
set_option maxRecDepth 100000 in
theorem metM_isCode (l : Launch) (DD : va_G) (dd : ClassId) (h : Nat) (a : Nat → Nat) (f : Nat → Int32) (r : Nat → Nat → Int32) {L D N : Nat} (x : Int32) (gm : geoM L D N f r) : mG l wM yX2_isCode cX2_isCode 2 .boolean (rmK 0) DD dd h a f r [.int (x)] (fun v f' r' => (v = nI 1 ∧ cbIs N x ∨ v = nI 0 ∧ ¬ cbIs N x) ∧ f' = f ∧ r' = r) := by
  refine mG_start (by decide) (Nat.le_of_ble_eq_true rfl) ?_
  intro p ee s m args below meth cd AA Q ls C I hl ret
  have hx := C.1
  have hb := C.2.1
  have hl : lv_has ls 2 [(0, .ref h), (1, .int (x))] := hl
  obtain ⟨hL1, hL4, hD1, hD3, hN1, hN81, hNe⟩ := gm.1
  refine lv_iload_n hx hb dX2_isCode_0 rfl (lv_at hl 1 rfl) ?_
  refine lv_if_lt (tgt := 16) hx hb dX2_isCode_1 (by decide) (fun c1 => ?_) (fun c1 => ?_)
  · have hq : nI 0 = nI 1 ∧ cbIs N x ∨ nI 0 = nI 0 ∧ ¬ cbIs N x := Or.inr ⟨rfl, cbIs_neg (by omega) c1⟩
    refine lv_iconst (v := nI 0) hx hb dX2_isCode_16 (by decide) ?_
    exact ret _ _ _ _ _ _ _ dX2_isCode_17 (rfl) I (⟨hq, rfl, rfl⟩)
  · refine lv_iload_n hx hb dX2_isCode_4 rfl (lv_at hl 1 rfl) ?_
    refine lv_aload_n hx hb dX2_isCode_5 rfl (lv_at hl 0 rfl) ?_
    refine gM_2 C I (v := nI (N)) (gm.2.2.2) dX2_isCode_6 ?_
    refine lv_icmp_ge (tgt := 16) hx hb dX2_isCode_9 (by decide) (fun c9 => ?_) (fun c9 => ?_)
    · have hq : nI 0 = nI 1 ∧ cbIs N x ∨ nI 0 = nI 0 ∧ ¬ cbIs N x := Or.inr ⟨rfl, cbIs_big (by omega) (Int32.not_lt.mpr c9)⟩
      refine lv_iconst (v := nI 0) hx hb dX2_isCode_16 (by decide) ?_
      exact ret _ _ _ _ _ _ _ dX2_isCode_17 (rfl) I (⟨hq, rfl, rfl⟩)
    · have hq : nI 1 = nI 1 ∧ cbIs N x ∨ nI 1 = nI 0 ∧ ¬ cbIs N x := Or.inl ⟨rfl, cbIs_of (by omega) c1 (Int32.not_le.mp c9)⟩
      refine lv_iconst (v := nI 1) hx hb dX2_isCode_12 (by decide) ?_
      refine lv_goto (tgt := 17) hx hb dX2_isCode_13 (by decide) ?_
      exact ret _ _ _ _ _ _ _ dX2_isCode_17 (rfl) I (⟨hq, rfl, rfl⟩)
set_option maxHeartbeats 4000000 in
set_option maxRecDepth 100000 in
theorem metM_digitOf (l : Launch) (DD : va_G) (dd : ClassId) (h : Nat) (a : Nat → Nat) (f : Nat → Int32) (r : Nat → Nat → Int32) {L D N : Nat} (x i : Nat) (gm : geoM L D N f r) (hx0 : x < 81) (hi : i ≤ 4) : mG l wM yX2_digitOf cX2_digitOf 5 .int (rmK 0) DD dd h a f r [.int (nI x), .int (nI i)] (fun v f' r' => v = nI (cbD D x i) ∧ f' = f ∧ r' = r) := by
  refine mG_start (by decide) (Nat.le_of_ble_eq_true rfl) ?_
  intro p ee s m args below meth cd AA Q ls C I hl ret
  have hx := C.1
  have hb := C.2.1
  have hl : lv_has ls 5 [(0, .ref h), (1, .int (nI x)), (2, .int (nI i))] := hl
  obtain ⟨hL1, hL4, hD1, hD3, hN1, hN81, hNe⟩ := gm.1
  refine lv_iload_n hx hb dX2_digitOf_0 rfl (lv_at hl 1 rfl) ?_
  refine w_top (v := nI (x / D ^ 0)) (by rw [Nat.pow_zero, Nat.div_one]) ?_
  refine lv_istore_n (lv' := [(3, .int (nI (x / D ^ 0))), (0, .ref h), (1, .int (nI x)), (2, .int (nI i))]) hx hb dX2_digitOf_1 rfl hl (by decide) rfl (fun ls hl => ?_)
  refine lv_iconst (v := nI 0) hx hb dX2_digitOf_2 (by decide) ?_
  refine lv_istore (lv' := [(4, .int (nI 0)), (3, .int (nI (x / D ^ 0))), (0, .ref h), (1, .int (nI x)), (2, .int (nI i))]) hx hb dX2_digitOf_3 hl (by decide) rfl (fun ls hl => ?_)
  have loop5 : ∀ (n : Nat) (k : Nat) (H : Heap) (locs : List Loc) (ls : Array Slot), (i < k + n) → (k ≤ i) → iG wM DD dd AA s.heap h a f r H locs → lv_has ls 5 [(0, .ref h), (1, .int (nI x)), (2, .int (nI i)), (3, .int (nI (x / D ^ k))), (4, .int (nI k))] → W p l ee (rmK 0) s m args below meth cd H locs 0 0 Q (F0 m 5 ls []) := by
    intro n
    induction n with
    | zero =>
      intros; exfalso; omega
    | succ n ih =>
      intro k H locs ls h1 h2 I hl
      have hxk : x / D ^ k ≤ x := Nat.div_le_self _ _
      refine lv_iload hx hb dX2_digitOf_5 (lv_at hl 4 rfl) ?_
      refine lv_iload_n hx hb dX2_digitOf_7 rfl (lv_at hl 2 rfl) ?_
      refine n_icge (tgt := 24) hx hb (by omega) (by omega) dX2_digitOf_8 (by decide) (fun c8 => ?_) (fun c8 => ?_)
      · have e9 : i = k := by omega
        subst e9
        refine lv_iload_n hx hb dX2_digitOf_24 rfl (lv_at hl 3 rfl) ?_
        refine lv_aload_n hx hb dX2_digitOf_25 rfl (lv_at hl 0 rfl) ?_
        refine gM_1 C I (v := nI (D)) (gm.2.2.1) dX2_digitOf_26 ?_
        refine n_rem hx hb (by omega) (by omega) (by omega) dX2_digitOf_29 ?_
        exact ret _ _ _ _ _ _ _ dX2_digitOf_30 (rfl) I (⟨rfl, rfl, rfl⟩)
      · refine lv_iload_n hx hb dX2_digitOf_11 rfl (lv_at hl 3 rfl) ?_
        refine lv_aload_n hx hb dX2_digitOf_12 rfl (lv_at hl 0 rfl) ?_
        refine gM_1 C I (v := nI (D)) (gm.2.2.1) dX2_digitOf_13 ?_
        refine n_div hx hb (by omega) (by omega) (by omega) dX2_digitOf_16 ?_
        refine w_top (v := nI (x / D ^ (k + 1))) (by rw [Nat.pow_succ, Nat.div_div_eq_div_mul]) ?_
        refine lv_istore_n (lv' := [(3, .int (nI (x / D ^ (k + 1)))), (0, .ref h), (1, .int (nI x)), (2, .int (nI i)), (4, .int (nI k))]) hx hb dX2_digitOf_17 rfl hl (by decide) rfl (fun ls hl => ?_)
        refine lv_iinc (v := nI (k + 1)) (lv' := [(4, .int (nI (k + 1))), (3, .int (nI (x / D ^ (k + 1)))), (0, .ref h), (1, .int (nI x)), (2, .int (nI i))]) hx hb dX2_digitOf_18 hl (k := 4) rfl (nI_1 _) (by decide) rfl (fun ls hl => ?_)
        refine lv_goto (tgt := 5) hx hb dX2_digitOf_21 (by decide) ?_
        exact ih (k + 1) _ _ _ (by omega) (by omega) I (lv_sub hl [2, 3, 4, 1, 0] rfl)
  exact loop5 (i + 1) 0 _ _ _ (by omega) (by omega) I (lv_sub hl [2, 3, 4, 1, 0] rfl)
set_option maxHeartbeats 4000000 in
set_option maxRecDepth 100000 in
theorem metM_times (l : Launch) (DD : va_G) (dd : ClassId) (h : Nat) (a : Nat → Nat) (f : Nat → Int32) (r : Nat → Nat → Int32) {L D N : Nat} (x e : Nat) (gm : geoM L D N f r) (hx0 : x < 81) (he : e ≤ 4) : mG l wM yX2_times cX2_times 5 .int (rmK 1) DD dd h a f r [.int (nI x), .int (nI e)] (fun v f' r' => v = nI (cbTimes L D x e) ∧ f' = f ∧ r' = r) := by
  refine mG_start (by decide) (Nat.le_of_ble_eq_true rfl) ?_
  intro p ee s m args below meth cd AA Q ls C I hl ret
  have hx := C.1
  have hb := C.2.1
  have hl : lv_has ls 5 [(0, .ref h), (1, .int (nI x)), (2, .int (nI e))] := hl
  obtain ⟨hL1, hL4, hD1, hD3, hN1, hN81, hNe⟩ := gm.1
  obtain ⟨P, hP⟩ : ∃ P : Nat → Bool, P = (fun i => decide (cbD D x i = e)) := ⟨_, rfl⟩
  refine lv_iconst (v := nI 0) hx hb dX2_times_0 (by decide) ?_
  refine lv_istore_n (lv' := [(3, .int (nI 0)), (0, .ref h), (1, .int (nI x)), (2, .int (nI e))]) hx hb dX2_times_1 rfl hl (by decide) rfl (fun ls hl => ?_)
  refine lv_iconst (v := nI 0) hx hb dX2_times_2 (by decide) ?_
  refine lv_istore (lv' := [(4, .int (nI 0)), (3, .int (nI 0)), (0, .ref h), (1, .int (nI x)), (2, .int (nI e))]) hx hb dX2_times_3 hl (by decide) rfl (fun ls hl => ?_)
  have loop5 : ∀ (n : Nat) (i : Nat) (H : Heap) (locs : List Loc) (ls : Array Slot), (L < i + n) → (i ≤ L) → iG wM DD dd AA s.heap h a f r H locs → lv_has ls 5 [(0, .ref h), (1, .int (nI x)), (2, .int (nI e)), (3, .int (nI (cbCnt P i))), (4, .int (nI i))] → W p l ee (rmK 1) s m args below meth cd H locs 0 0 Q (F0 m 5 ls []) := by
    intro n
    induction n with
    | zero =>
      intros; exfalso; omega
    | succ n ih =>
      intro i H locs ls h1 h2 I hl
      refine lv_iload hx hb dX2_times_5 (lv_at hl 4 rfl) ?_
      refine lv_aload_n hx hb dX2_times_7 rfl (lv_at hl 0 rfl) ?_
      refine gM_0 C I (v := nI (L)) (gm.2.1) dX2_times_8 ?_
      refine n_icge (tgt := 39) hx hb (by omega) (by omega) dX2_times_11 (by decide) (fun c11 => ?_) (fun c11 => ?_)
      · have e9 : L = i := by omega
        subst e9
        refine lv_iload_n hx hb dX2_times_39 rfl (lv_at hl 3 rfl) ?_
        exact ret _ _ _ _ _ _ _ dX2_times_40 (rfl) I (⟨by rw [hP]; rfl, rfl, rfl⟩)
      · refine lv_aload_n hx hb dX2_times_14 rfl (lv_at hl 0 rfl) ?_
        refine lv_iload_n hx hb dX2_times_15 rfl (lv_at hl 1 rfl) ?_
        refine lv_iload hx hb dX2_times_16 (lv_at hl 4 rfl) ?_
        refine mG_call (q := (RX2, TX2, 11)) (ci := 1) C I (metM_digitOf l DD dd h a f r x i gm hx0 (by omega)) ⟨_, rfl⟩ rfl cwM_MdigitOf cdM_digitOf ⟨Nat.le_of_ble_eq_true rfl, Nat.le_of_ble_eq_true rfl⟩ ⟨rfl, rfl⟩ rfl hl.1 (Nat.le_of_ble_eq_true rfl) dX2_times_18 ⟨Nat.zero_le _, Nat.zero_le _⟩ rfl (fun v1 f1 r1 H locs hp1 I => ?_)
        obtain ⟨ev1, ef1, er1⟩ := hp1
        subst ev1
        rw [ef1, er1] at I
        refine lv_iload_n hx hb dX2_times_21 rfl (lv_at hl 2 rfl) ?_
        have join32 : W p l ee (rmK 1) s m args below meth cd H locs 0 0 Q (F0 m 32 ls [.int (nI (cbCnt P (i + 1)))]) := by
          refine lv_istore_n (lv' := [(3, .int (nI (cbCnt P (i + 1)))), (0, .ref h), (1, .int (nI x)), (2, .int (nI e)), (4, .int (nI i))]) hx hb dX2_times_32 rfl hl (by decide) rfl (fun ls hl => ?_)
          refine lv_iinc (v := nI (i + 1)) (lv' := [(4, .int (nI (i + 1))), (3, .int (nI (cbCnt P (i + 1)))), (0, .ref h), (1, .int (nI x)), (2, .int (nI e))]) hx hb dX2_times_33 hl (k := 4) rfl (nI_1 _) (by decide) rfl (fun ls hl => ?_)
          refine lv_goto (tgt := 5) hx hb dX2_times_36 (by decide) ?_
          exact ih (i + 1) _ _ _ (by omega) (by omega) I (lv_sub hl [2, 3, 4, 1, 0] rfl)
        refine n_icne (tgt := 31) hx hb (Nat.lt_trans (cbD_lt hD1 _ _) (by omega)) (by omega) dX2_times_22 (by decide) (fun c22 => ?_) (fun c22 => ?_)
        · refine lv_iload_n hx hb dX2_times_31 rfl (lv_at hl 3 rfl) ?_
          refine w_top (v := nI (cbCnt P (i + 1))) (by rw [cbCnt_f (by rw [hP]; exact decide_eq_false c22)]) ?_
          exact join32
        · refine lv_iload_n hx hb dX2_times_25 rfl (lv_at hl 3 rfl) ?_
          refine lv_iconst (v := nI 1) hx hb dX2_times_26 (by decide) ?_
          refine n_add hx hb dX2_times_27 ?_
          refine lv_goto (tgt := 32) hx hb dX2_times_28 (by decide) ?_
          refine w_top (v := nI (cbCnt P (i + 1))) (by rw [cbCnt_t (by rw [hP]; exact decide_eq_true c22)]) ?_
          exact join32
  exact loop5 (L + 1) 0 _ _ _ (by omega) (by omega) I (lv_sub hl [2, 3, 4, 1, 0] rfl)
set_option maxHeartbeats 4000000 in
set_option maxRecDepth 100000 in
theorem metM_compare (l : Launch) (DD : va_G) (dd : ClassId) (h : Nat) (a : Nat → Nat) (f : Nat → Int32) (r : Nat → Nat → Int32) {L D N : Nat} (g q : Nat) (gm : geoM L D N f r) (hg : g < 81) (hq : q < 81) : mG l wM yX2_compare cX2_compare 8 .int (rmK 2) DD dd h a f r [.int (nI g), .int (nI q)] (fun v f' r' => v = nI (cbAns L D g q) ∧ f' = f ∧ r' = r) := by
  refine mG_start (by decide) (Nat.le_of_ble_eq_true rfl) ?_
  intro p ee s m args below meth cd AA Q ls C I hl ret
  have hx := C.1
  have hb := C.2.1
  have hl : lv_has ls 8 [(0, .ref h), (1, .int (nI g)), (2, .int (nI q))] := hl
  obtain ⟨hL1, hL4, hD1, hD3, hN1, hN81, hNe⟩ := gm.1
  obtain ⟨P, hP⟩ : ∃ P : Nat → Bool, P = (fun i => decide (cbD D g i = cbD D q i)) := ⟨_, rfl⟩
  obtain ⟨F, hF⟩ : ∃ F : Nat → Nat, F = (fun d => cbMin (cbTimes L D g d) (cbTimes L D q d)) := ⟨_, rfl⟩
  refine lv_iconst (v := nI 0) hx hb dX2_compare_0 (by decide) ?_
  refine lv_istore_n (lv' := [(3, .int (nI 0)), (0, .ref h), (1, .int (nI g)), (2, .int (nI q))]) hx hb dX2_compare_1 rfl hl (by decide) rfl (fun ls hl => ?_)
  refine lv_iconst (v := nI 0) hx hb dX2_compare_2 (by decide) ?_
  refine lv_istore (lv' := [(4, .int (nI 0)), (3, .int (nI 0)), (0, .ref h), (1, .int (nI g)), (2, .int (nI q))]) hx hb dX2_compare_3 hl (by decide) rfl (fun ls hl => ?_)
  have loop5 : ∀ (n : Nat) (i : Nat) (H : Heap) (locs : List Loc) (ls : Array Slot), (L < i + n) → (i ≤ L) → iG wM DD dd AA s.heap h a f r H locs → lv_has ls 8 [(0, .ref h), (1, .int (nI g)), (2, .int (nI q)), (3, .int (nI (cbCnt P i))), (4, .int (nI i))] → W p l ee (rmK 2) s m args below meth cd H locs 0 0 Q (F0 m 5 ls []) := by
    intro n
    induction n with
    | zero =>
      intros; exfalso; omega
    | succ n ih =>
      intro i H locs ls h1 h2 I hl
      refine lv_iload hx hb dX2_compare_5 (lv_at hl 4 rfl) ?_
      refine lv_aload_n hx hb dX2_compare_7 rfl (lv_at hl 0 rfl) ?_
      refine gM_0 C I (v := nI (L)) (gm.2.1) dX2_compare_8 ?_
      refine n_icge (tgt := 45) hx hb (by omega) (by omega) dX2_compare_11 (by decide) (fun c11 => ?_) (fun c11 => ?_)
      · have e5 : L = i := by omega
        subst e5
        rw [show cbCnt P L = cbSame L D g q by rw [hP]; rfl] at hl
        refine lv_iconst (v := nI 0) hx hb dX2_compare_45 (by decide) ?_
        refine lv_istore (lv' := [(4, .int (nI 0)), (0, .ref h), (1, .int (nI g)), (2, .int (nI q)), (3, .int (nI (cbSame L D g q)))]) hx hb dX2_compare_46 hl (by decide) rfl (fun ls hl => ?_)
        refine lv_iconst (v := nI 0) hx hb dX2_compare_48 (by decide) ?_
        refine lv_istore (lv' := [(5, .int (nI 0)), (4, .int (nI 0)), (0, .ref h), (1, .int (nI g)), (2, .int (nI q)), (3, .int (nI (cbSame L D g q)))]) hx hb dX2_compare_49 hl (by decide) rfl (fun ls hl => ?_)
        have loop51 : ∀ (n : Nat) (j : Nat) (H : Heap) (locs : List Loc) (ls : Array Slot), (D < j + n) → (j ≤ D) → iG wM DD dd AA s.heap h a f r H locs → lv_has ls 8 [(0, .ref h), (1, .int (nI g)), (2, .int (nI q)), (3, .int (nI (cbSame L D g q))), (4, .int (nI (cbSum F j))), (5, .int (nI j))] → W p l ee (rmK 2) s m args below meth cd H locs 0 0 Q (F0 m 51 ls []) := by
          intro n
          induction n with
          | zero =>
            intros; exfalso; omega
          | succ n ih =>
            intro j H locs ls h3 h4 I hl
            refine lv_iload hx hb dX2_compare_51 (lv_at hl 5 rfl) ?_
            refine lv_aload_n hx hb dX2_compare_53 rfl (lv_at hl 0 rfl) ?_
            refine gM_1 C I (v := nI (D)) (gm.2.2.1) dX2_compare_54 ?_
            refine n_icge (tgt := 103) hx hb (by omega) (by omega) dX2_compare_57 (by decide) (fun c57 => ?_) (fun c57 => ?_)
            · have e6 : D = j := by omega
              subst e6
              refine lv_bipush (v := nI 10) hx hb dX2_compare_103 (by decide) ?_
              refine lv_iload_n hx hb dX2_compare_105 rfl (lv_at hl 3 rfl) ?_
              refine n_mul hx hb dX2_compare_106 ?_
              refine lv_iload hx hb dX2_compare_107 (lv_at hl 4 rfl) ?_
              refine n_add hx hb dX2_compare_109 ?_
              refine lv_iload_n hx hb dX2_compare_110 rfl (lv_at hl 3 rfl) ?_
              refine n_sub hx hb (by omega) dX2_compare_111 ?_
              exact ret _ _ _ _ _ _ _ dX2_compare_112 (rfl) I (⟨by rw [hF]; rfl, rfl, rfl⟩)
            · refine lv_aload_n hx hb dX2_compare_60 rfl (lv_at hl 0 rfl) ?_
              refine lv_iload_n hx hb dX2_compare_61 rfl (lv_at hl 1 rfl) ?_
              refine lv_iload hx hb dX2_compare_62 (lv_at hl 5 rfl) ?_
              refine mG_call (q := (RX2, TX2, 11)) (ci := 1) C I (metM_times l DD dd h a f r g j gm hg (by omega)) ⟨_, rfl⟩ rfl cwM_Mtimes cdM_times ⟨Nat.le_of_ble_eq_true rfl, Nat.le_of_ble_eq_true rfl⟩ ⟨rfl, rfl⟩ rfl hl.1 (Nat.le_of_ble_eq_true rfl) dX2_compare_64 ⟨Nat.zero_le _, Nat.zero_le _⟩ rfl (fun v1 f1 r1 H locs hp1 I => ?_)
              obtain ⟨ev1, ef1, er1⟩ := hp1
              subst ev1
              rw [ef1, er1] at I
              refine lv_istore (lv' := [(6, .int (nI (cbTimes L D g j))), (0, .ref h), (1, .int (nI g)), (2, .int (nI q)), (3, .int (nI (cbSame L D g q))), (4, .int (nI (cbSum F j))), (5, .int (nI j))]) hx hb dX2_compare_67 hl (by decide) rfl (fun ls hl => ?_)
              refine lv_aload_n hx hb dX2_compare_69 rfl (lv_at hl 1 rfl) ?_
              refine lv_iload_n hx hb dX2_compare_70 rfl (lv_at hl 3 rfl) ?_
              refine lv_iload hx hb dX2_compare_71 (lv_at hl 6 rfl) ?_
              refine mG_call (q := (RX2, TX2, 11)) (ci := 1) C I (metM_times l DD dd h a f r q j gm hq (by omega)) ⟨_, rfl⟩ rfl cwM_Mtimes cdM_times ⟨Nat.le_of_ble_eq_true rfl, Nat.le_of_ble_eq_true rfl⟩ ⟨rfl, rfl⟩ rfl hl.1 (Nat.le_of_ble_eq_true rfl) dX2_compare_73 ⟨Nat.zero_le _, Nat.zero_le _⟩ rfl (fun v2 f2 r2 H locs hp2 I => ?_)
              obtain ⟨ev2, ef2, er2⟩ := hp2
              subst ev2
              rw [ef2, er2] at I
              refine lv_istore (lv' := [(7, .int (nI (cbTimes L D q j))), (6, .int (nI (cbTimes L D g j))), (0, .ref h), (1, .int (nI g)), (2, .int (nI q)), (3, .int (nI (cbSame L D g q))), (4, .int (nI (cbSum F j))), (5, .int (nI j))]) hx hb dX2_compare_76 hl (by decide) rfl (fun ls hl => ?_)
              refine lv_iload hx hb dX2_compare_78 (lv_at hl 6 rfl) ?_
              refine lv_iload hx hb dX2_compare_80 (lv_at hl 1 rfl) ?_
              refine lv_iload hx hb dX2_compare_82 (lv_at hl 0 rfl) ?_
              have join94 : W p l ee (rmK 2) s m args below meth cd H locs 0 0 Q (F0 m 94 ls [.int (nI (cbMin (cbTimes L D g j) (cbTimes L D q j))), .int (nI (cbSum F j))]) := by
                refine n_add hx hb dX2_compare_94 ?_
                refine w_top (v := nI (cbSum F (j + 1))) (by rw [hF]; rfl) ?_
                refine lv_istore (lv' := [(4, .int (nI (cbSum F (j + 1)))), (7, .int (nI (cbTimes L D q j))), (6, .int (nI (cbTimes L D g j))), (0, .ref h), (1, .int (nI g)), (2, .int (nI q)), (3, .int (nI (cbSame L D g q))), (5, .int (nI j))]) hx hb dX2_compare_95 hl (by decide) rfl (fun ls hl => ?_)
                refine lv_iinc (v := nI (j + 1)) (lv' := [(5, .int (nI (j + 1))), (4, .int (nI (cbSum F (j + 1)))), (7, .int (nI (cbTimes L D q j))), (6, .int (nI (cbTimes L D g j))), (0, .ref h), (1, .int (nI g)), (2, .int (nI q)), (3, .int (nI (cbSame L D g q)))]) hx hb dX2_compare_97 hl (k := 7) rfl (nI_1 _) (by decide) rfl (fun ls hl => ?_)
                refine lv_goto (tgt := 51) hx hb dX2_compare_100 (by decide) ?_
                exact ih (j + 1) _ _ _ (by omega) (by omega) I (lv_sub hl [4, 5, 6, 7, 1, 0] rfl)
              refine n_icge (tgt := 92) hx hb (Nat.lt_of_le_of_lt (cbCnt_le _ _) (by omega)) (Nat.lt_of_le_of_lt (cbCnt_le _ _) (by omega)) dX2_compare_84 (by decide) (fun c84 => ?_) (fun c84 => ?_)
              · refine lv_iload hx hb dX2_compare_92 (lv_at hl 0 rfl) ?_
                refine w_top (v := nI (cbMin (cbTimes L D g j) (cbTimes L D q j))) (by unfold cbMin; rw [if_pos c84]) ?_
                exact join94
              · refine lv_iload hx hb dX2_compare_87 (lv_at hl 1 rfl) ?_
                refine lv_goto (tgt := 94) hx hb dX2_compare_89 (by decide) ?_
                refine w_top (v := nI (cbMin (cbTimes L D g j) (cbTimes L D q j))) (by unfold cbMin; rw [if_neg (Nat.not_le.mpr c84)]) ?_
                exact join94
        exact loop51 (D + 1) 0 _ _ _ (by omega) (by omega) I (lv_sub hl [2, 3, 4, 5, 1, 0] rfl)
      · refine lv_aload_n hx hb dX2_compare_14 rfl (lv_at hl 0 rfl) ?_
        refine lv_iload_n hx hb dX2_compare_15 rfl (lv_at hl 1 rfl) ?_
        refine lv_iload hx hb dX2_compare_16 (lv_at hl 4 rfl) ?_
        refine mG_call (q := (RX2, TX2, 11)) (ci := 1) C I (metM_digitOf l DD dd h a f r g i gm hg (by omega)) ⟨_, rfl⟩ rfl cwM_MdigitOf cdM_digitOf ⟨Nat.le_of_ble_eq_true rfl, Nat.le_of_ble_eq_true rfl⟩ ⟨rfl, rfl⟩ rfl hl.1 (Nat.le_of_ble_eq_true rfl) dX2_compare_18 ⟨Nat.zero_le _, Nat.zero_le _⟩ rfl (fun v3 f3 r3 H locs hp3 I => ?_)
        obtain ⟨ev3, ef3, er3⟩ := hp3
        subst ev3
        rw [ef3, er3] at I
        refine lv_aload_n hx hb dX2_compare_21 rfl (lv_at hl 0 rfl) ?_
        refine lv_iload_n hx hb dX2_compare_22 rfl (lv_at hl 2 rfl) ?_
        refine lv_iload hx hb dX2_compare_23 (lv_at hl 4 rfl) ?_
        refine mG_call (q := (RX2, TX2, 11)) (ci := 1) C I (metM_digitOf l DD dd h a f r q i gm hq (by omega)) ⟨_, rfl⟩ rfl cwM_MdigitOf cdM_digitOf ⟨Nat.le_of_ble_eq_true rfl, Nat.le_of_ble_eq_true rfl⟩ ⟨rfl, rfl⟩ rfl hl.1 (Nat.le_of_ble_eq_true rfl) dX2_compare_25 ⟨Nat.zero_le _, Nat.zero_le _⟩ rfl (fun v4 f4 r4 H locs hp4 I => ?_)
        obtain ⟨ev4, ef4, er4⟩ := hp4
        subst ev4
        rw [ef4, er4] at I
        have join38 : W p l ee (rmK 2) s m args below meth cd H locs 0 0 Q (F0 m 38 ls [.int (nI (cbCnt P (i + 1)))]) := by
          refine lv_istore_n (lv' := [(3, .int (nI (cbCnt P (i + 1)))), (0, .ref h), (1, .int (nI g)), (2, .int (nI q)), (4, .int (nI i))]) hx hb dX2_compare_38 rfl hl (by decide) rfl (fun ls hl => ?_)
          refine lv_iinc (v := nI (i + 1)) (lv' := [(4, .int (nI (i + 1))), (3, .int (nI (cbCnt P (i + 1)))), (0, .ref h), (1, .int (nI g)), (2, .int (nI q))]) hx hb dX2_compare_39 hl (k := 4) rfl (nI_1 _) (by decide) rfl (fun ls hl => ?_)
          refine lv_goto (tgt := 5) hx hb dX2_compare_42 (by decide) ?_
          exact ih (i + 1) _ _ _ (by omega) (by omega) I (lv_sub hl [2, 3, 4, 1, 0] rfl)
        refine n_icne (tgt := 37) hx hb (Nat.lt_trans (cbD_lt hD1 _ _) (by omega)) (Nat.lt_trans (cbD_lt hD1 _ _) (by omega)) dX2_compare_28 (by decide) (fun c28 => ?_) (fun c28 => ?_)
        · refine lv_iload_n hx hb dX2_compare_37 rfl (lv_at hl 3 rfl) ?_
          refine w_top (v := nI (cbCnt P (i + 1))) (by rw [cbCnt_f (by rw [hP]; exact decide_eq_false c28)]) ?_
          exact join38
        · refine lv_iload_n hx hb dX2_compare_31 rfl (lv_at hl 3 rfl) ?_
          refine lv_iconst (v := nI 1) hx hb dX2_compare_32 (by decide) ?_
          refine n_add hx hb dX2_compare_33 ?_
          refine lv_goto (tgt := 38) hx hb dX2_compare_34 (by decide) ?_
          refine w_top (v := nI (cbCnt P (i + 1))) (by rw [cbCnt_t (by rw [hP]; exact decide_eq_true c28)]) ?_
          exact join38
  exact loop5 (L + 1) 0 _ _ _ (by omega) (by omega) I (lv_sub hl [2, 3, 4, 1, 0] rfl)
set_option maxHeartbeats 4000000 in
set_option maxRecDepth 100000 in
theorem metM_answerTo (l : Launch) (DD : va_G) (dd : ClassId) (h : Nat) (a : Nat → Nat) (f : Nat → Int32) (r : Nat → Nat → Int32) {L D N : Nat} (g q : Nat) (hN81 : N ≤ 81) (tb : ∀ g s, g < N → s < N → r 10 (81 * g + s) = nI (cbAns L D g s)) (hg : g < N) (hq : q < N) : mG l wM yX2_answerTo cX2_answerTo 3 .int (rmK 0) DD dd h a f r [.int (nI g), .int (nI q)] (fun v f' r' => v = nI (cbAns L D g q) ∧ f' = f ∧ r' = r) := by
  refine mG_start (by decide) (Nat.le_of_ble_eq_true rfl) ?_
  intro p ee s m args below meth cd AA Q ls C I hl ret
  have hx := C.1
  have hb := C.2.1
  have hl : lv_has ls 3 [(0, .ref h), (1, .int (nI g)), (2, .int (nI q))] := hl
  refine lv_aload_n hx hb dX2_answerTo_0 rfl (lv_at hl 0 rfl) ?_
  refine gM_10 C I dX2_answerTo_1 ?_
  refine lv_bipush (v := nI 81) hx hb dX2_answerTo_4 (by decide) ?_
  refine lv_iload_n hx hb dX2_answerTo_6 rfl (lv_at hl 1 rfl) ?_
  refine n_mul hx hb dX2_answerTo_7 ?_
  refine lv_iload_n hx hb dX2_answerTo_8 rfl (lv_at hl 2 rfl) ?_
  refine n_add hx hb dX2_answerTo_9 ?_
  refine ldM_10 C I ((81 * g) + q) (rfl) (by omega) (v := nI (cbAns L D g q)) (tb g q hg hq) dX2_answerTo_10 ?_
  exact ret _ _ _ _ _ _ _ dX2_answerTo_11 (rfl) I (⟨rfl, rfl, rfl⟩)
set_option maxHeartbeats 4000000 in
set_option maxRecDepth 100000 in
theorem metM_answer (l : Launch) (DD : va_G) (dd : ClassId) (h : Nat) (a : Nat → Nat) (f : Nat → Int32) (r : Nat → Nat → Int32) {L D N c : Nat} {G B : Nat → Nat} (x y : Int32) (sx : stM L D N c G B f r) : mG l wM yX2_answer cX2_answer 3 .int (rmK 1) DD dd h a f r [.int (x), .int (y)] (fun v f' r' => (v = -1 ∧ ¬ (cbIs N x ∧ cbIs N y) ∨ ∃ i j, i < N ∧ j < N ∧ x = nI i ∧ y = nI j ∧ v = nI (cbAns L D i j)) ∧ f' = f ∧ r' = r) := by
  refine mG_start (by decide) (Nat.le_of_ble_eq_true rfl) ?_
  intro p ee s m args below meth cd AA Q ls C I hl ret
  have hx := C.1
  have hb := C.2.1
  have hl : lv_has ls 3 [(0, .ref h), (1, .int (x)), (2, .int (y))] := hl
  have gm := sx.1
  obtain ⟨hL1, hL4, hD1, hD3, hN1, hN81, hNe⟩ := gm.1
  have tb := sx.2.1
  have hc8 := sx.2.2.1
  have hf5 := sx.2.2.2.1
  have hGB := sx.2.2.2.2
  refine lv_aload_n hx hb dX2_answer_0 rfl (lv_at hl 0 rfl) ?_
  refine lv_iload_n hx hb dX2_answer_1 rfl (lv_at hl 1 rfl) ?_
  refine mG_call (q := (RX2, TX2, 11)) (ci := 1) C I (metM_isCode l DD dd h a f r x gm) ⟨_, rfl⟩ rfl cwM_MisCode cdM_isCode ⟨Nat.le_of_ble_eq_true rfl, Nat.le_of_ble_eq_true rfl⟩ ⟨rfl, rfl⟩ rfl hl.1 (Nat.le_of_ble_eq_true rfl) dX2_answer_2 ⟨Nat.zero_le _, Nat.zero_le _⟩ rfl (fun v1 f1 r1 H locs hp1 I => ?_)
  obtain ⟨hqa, ef1, er1⟩ := hp1
  rw [ef1, er1] at I
  refine lv_if_eq (tgt := 25) hx hb dX2_answer_5 (by decide) (fun c5 => ?_) (fun c5 => ?_)
  · have hq : ¬ (cbIs N x ∧ cbIs N y) := by
      rcases hqa with ⟨q, -⟩ | ⟨-, q⟩
      · rw [q] at c5; exact absurd c5 (by decide)
      · exact fun z => q z.1
    refine lv_iconst (v := -1) hx hb dX2_answer_25 (by decide) ?_
    exact ret _ _ _ _ _ _ _ dX2_answer_26 (rfl) I (by first | exact ⟨Or.inl ⟨rfl, hq⟩, rfl, rfl⟩ | exact ⟨Or.inr ⟨i, j, hi, hj, rfl, rfl, rfl⟩, rfl, rfl⟩)
  · obtain ⟨i, hi, rfl⟩ : cbIs N x := by
      rcases hqa with ⟨-, q⟩ | ⟨q, -⟩
      · exact q
      · exact absurd q c5
    refine lv_aload_n hx hb dX2_answer_8 rfl (lv_at hl 0 rfl) ?_
    refine lv_iload_n hx hb dX2_answer_9 rfl (lv_at hl 2 rfl) ?_
    refine mG_call (q := (RX2, TX2, 11)) (ci := 1) C I (metM_isCode l DD dd h a f r y gm) ⟨_, rfl⟩ rfl cwM_MisCode cdM_isCode ⟨Nat.le_of_ble_eq_true rfl, Nat.le_of_ble_eq_true rfl⟩ ⟨rfl, rfl⟩ rfl hl.1 (Nat.le_of_ble_eq_true rfl) dX2_answer_10 ⟨Nat.zero_le _, Nat.zero_le _⟩ rfl (fun v2 f2 r2 H locs hp2 I => ?_)
    obtain ⟨hqb, ef2, er2⟩ := hp2
    rw [ef2, er2] at I
    refine lv_if_eq (tgt := 25) hx hb dX2_answer_13 (by decide) (fun c13 => ?_) (fun c13 => ?_)
    · have hq : ¬ (cbIs N (nI i) ∧ cbIs N y) := by
        rcases hqb with ⟨q, -⟩ | ⟨-, q⟩
        · rw [q] at c13; exact absurd c13 (by decide)
        · exact fun z => q z.2
      refine lv_iconst (v := -1) hx hb dX2_answer_25 (by decide) ?_
      exact ret _ _ _ _ _ _ _ dX2_answer_26 (rfl) I (by first | exact ⟨Or.inl ⟨rfl, hq⟩, rfl, rfl⟩ | exact ⟨Or.inr ⟨i, j, hi, hj, rfl, rfl, rfl⟩, rfl, rfl⟩)
    · obtain ⟨j, hj, rfl⟩ : cbIs N y := by
        rcases hqb with ⟨-, q⟩ | ⟨q, -⟩
        · exact q
        · exact absurd q c13
      refine lv_aload_n hx hb dX2_answer_16 rfl (lv_at hl 0 rfl) ?_
      refine lv_iload_n hx hb dX2_answer_17 rfl (lv_at hl 1 rfl) ?_
      refine lv_iload_n hx hb dX2_answer_18 rfl (lv_at hl 2 rfl) ?_
      refine mG_call (q := (RX2, TX2, 11)) (ci := 1) C I (metM_answerTo l DD dd h a f r i j hN81 tb hi hj) ⟨_, rfl⟩ rfl cwM_ManswerTo cdM_answerTo ⟨Nat.le_of_ble_eq_true rfl, Nat.le_of_ble_eq_true rfl⟩ ⟨rfl, rfl⟩ rfl hl.1 (Nat.le_of_ble_eq_true rfl) dX2_answer_19 ⟨Nat.zero_le _, Nat.zero_le _⟩ rfl (fun v3 f3 r3 H locs hp3 I => ?_)
      obtain ⟨ev3, ef3, er3⟩ := hp3
      subst ev3
      rw [ef3, er3] at I
      refine lv_goto (tgt := 26) hx hb dX2_answer_22 (by decide) ?_
      exact ret _ _ _ _ _ _ _ dX2_answer_26 (rfl) I (by first | exact ⟨Or.inl ⟨rfl, hq⟩, rfl, rfl⟩ | exact ⟨Or.inr ⟨i, j, hi, hj, rfl, rfl, rfl⟩, rfl, rfl⟩)
set_option maxHeartbeats 4000000 in
set_option maxRecDepth 100000 in
theorem metM_agrees (l : Launch) (DD : va_G) (dd : ClassId) (h : Nat) (a : Nat → Nat) (f : Nat → Int32) (r : Nat → Nat → Int32) {L D N c : Nat} {G B : Nat → Nat} (x w : Nat) (wt : Int32) (sx : stM L D N c G B f r) (hx0 : x < N) (hw : ∀ k, k < 8 → (nI k = wt ↔ k = w)) : mG l wM yX2_agrees cX2_agrees 4 .boolean (rmK 1) DD dd h a f r [.int (nI x), .int (wt)] (fun v f' r' => v = nI (cbAgr L D G B c w x).toNat ∧ f' = f ∧ r' = r) := by
  refine mG_start (by decide) (Nat.le_of_ble_eq_true rfl) ?_
  intro p ee s m args below meth cd AA Q ls C I hl ret
  have hx := C.1
  have hb := C.2.1
  have hl : lv_has ls 4 [(0, .ref h), (1, .int (nI x)), (2, .int (wt))] := hl
  have gm := sx.1
  obtain ⟨hL1, hL4, hD1, hD3, hN1, hN81, hNe⟩ := gm.1
  have tb := sx.2.1
  have hc8 := sx.2.2.1
  have hf5 := sx.2.2.2.1
  have hGB := sx.2.2.2.2
  obtain ⟨U, hUd⟩ : ∃ U : Nat → Bool, U = cbDis L D G B w x := ⟨_, rfl⟩
  refine lv_iconst (v := nI 0) hx hb dX2_agrees_0 (by decide) ?_
  refine lv_istore_n (lv' := [(3, .int (nI 0)), (0, .ref h), (1, .int (nI x)), (2, .int (wt))]) hx hb dX2_agrees_1 rfl hl (by decide) rfl (fun ls hl => ?_)
  have loop2 : ∀ (n : Nat) (k : Nat) (H : Heap) (locs : List Loc) (ls : Array Slot), (c < k + n) → (k ≤ c) → (∀ j, j < k → U j = false) → iG wM DD dd AA s.heap h a f r H locs → lv_has ls 4 [(0, .ref h), (1, .int (nI x)), (2, .int (wt)), (3, .int (nI k))] → W p l ee (rmK 1) s m args below meth cd H locs 0 0 Q (F0 m 2 ls []) := by
    intro n
    induction n with
    | zero =>
      intros; exfalso; omega
    | succ n ih =>
      intro k H locs ls h1 h2 h3 I hl
      refine lv_iload_n hx hb dX2_agrees_2 rfl (lv_at hl 3 rfl) ?_
      refine lv_aload_n hx hb dX2_agrees_3 rfl (lv_at hl 0 rfl) ?_
      refine gM_5 C I (v := nI (c)) (hf5) dX2_agrees_4 ?_
      refine n_icge (tgt := 43) hx hb (by omega) (by omega) dX2_agrees_7 (by decide) (fun c7 => ?_) (fun c7 => ?_)
      · refine lv_iconst (v := nI 1) hx hb dX2_agrees_43 (by decide) ?_
        exact ret _ _ _ _ _ _ _ dX2_agrees_44 (rfl) I (⟨by unfold cbAgr; rw [← hUd, cbAny_none.mpr (fun j hj => h3 j (by omega))]; rfl, rfl, rfl⟩)
      · obtain ⟨hgk, hg3, hb44, hb4⟩ := hGB k c7
        have hU : U k = (!decide (k = w) && !decide (cbAns L D (G k) x = B k)) := by rw [hUd]; rfl
        refine lv_iload_n hx hb dX2_agrees_10 rfl (lv_at hl 3 rfl) ?_
        refine lv_iload_n hx hb dX2_agrees_11 rfl (lv_at hl 2 rfl) ?_
        refine lv_icmp_eq (tgt := 37) hx hb dX2_agrees_12 (by decide) (fun c12 => ?_) (fun c12 => ?_)
        · have hUk : U k = false := by rw [hU, decide_eq_true ((hw k (by omega)).mp c12)]; rfl
          refine lv_iinc (v := nI (k + 1)) (lv' := [(3, .int (nI (k + 1))), (0, .ref h), (1, .int (nI x)), (2, .int (wt))]) hx hb dX2_agrees_37 hl (k := 3) rfl (nI_1 _) (by decide) rfl (fun ls hl => ?_)
          refine lv_goto (tgt := 2) hx hb dX2_agrees_40 (by decide) ?_
          exact ih (k + 1) _ _ _ (by omega) (by omega) (fun j hj => by
            by_cases hjk : j = k
            · rw [hjk]; exact hUk
            · exact h3 j (by omega)) I (lv_sub hl [1, 2, 3, 0] rfl)
        · refine lv_aload_n hx hb dX2_agrees_15 rfl (lv_at hl 0 rfl) ?_
          refine lv_aload_n hx hb dX2_agrees_16 rfl (lv_at hl 0 rfl) ?_
          refine gM_3 C I dX2_agrees_17 ?_
          refine lv_iload_n hx hb dX2_agrees_20 rfl (lv_at hl 3 rfl) ?_
          refine ldM_3 C I (k) (rfl) (by omega) (v := nI (G k)) (hg3) dX2_agrees_21 ?_
          refine lv_iload_n hx hb dX2_agrees_22 rfl (lv_at hl 1 rfl) ?_
          refine mG_call (q := (RX2, TX2, 11)) (ci := 1) C I (metM_answerTo l DD dd h a f r (G k) x hN81 tb hgk hx0) ⟨_, rfl⟩ rfl cwM_ManswerTo cdM_answerTo ⟨Nat.le_of_ble_eq_true rfl, Nat.le_of_ble_eq_true rfl⟩ ⟨rfl, rfl⟩ rfl hl.1 (Nat.le_of_ble_eq_true rfl) dX2_agrees_23 ⟨Nat.zero_le _, Nat.zero_le _⟩ rfl (fun v1 f1 r1 H locs hp1 I => ?_)
          obtain ⟨ev1, ef1, er1⟩ := hp1
          subst ev1
          rw [ef1, er1] at I
          refine lv_aload_n hx hb dX2_agrees_26 rfl (lv_at hl 0 rfl) ?_
          refine gM_4 C I dX2_agrees_27 ?_
          refine lv_iload_n hx hb dX2_agrees_30 rfl (lv_at hl 3 rfl) ?_
          refine ldM_4 C I (k) (rfl) (by omega) (v := nI (B k)) (hb4) dX2_agrees_31 ?_
          refine n_iceq (tgt := 37) hx hb (Nat.lt_trans (cbAns_lt hD1 hL4 _ _) (by decide)) (by omega) dX2_agrees_32 (by decide) (fun c32 => ?_) (fun c32 => ?_)
          · have hUk : U k = false := by rw [hU, decide_eq_true c32]; simp
            refine lv_iinc (v := nI (k + 1)) (lv' := [(3, .int (nI (k + 1))), (0, .ref h), (1, .int (nI x)), (2, .int (wt))]) hx hb dX2_agrees_37 hl (k := 3) rfl (nI_1 _) (by decide) rfl (fun ls hl => ?_)
            refine lv_goto (tgt := 2) hx hb dX2_agrees_40 (by decide) ?_
            exact ih (k + 1) _ _ _ (by omega) (by omega) (fun j hj => by
              by_cases hjk : j = k
              · rw [hjk]; exact hUk
              · exact h3 j (by omega)) I (lv_sub hl [1, 2, 3, 0] rfl)
          · have hUk : U k = true := by rw [hU, decide_eq_false c32, decide_eq_false (fun z => c12 ((hw k (by omega)).mpr z))]; rfl
            refine lv_iconst (v := nI 0) hx hb dX2_agrees_35 (by decide) ?_
            exact ret _ _ _ _ _ _ _ dX2_agrees_36 (rfl) I (⟨by unfold cbAgr; rw [← hUd, cbAny_iff.mpr ⟨k, c7, hUk⟩]; rfl, rfl, rfl⟩)
  exact loop2 (c + 1) 0 _ _ _ (by omega) (by omega) (fun j hj => absurd hj (Nat.not_lt_zero j)) I (lv_sub hl [1, 2, 3, 0] rfl)
theorem metM_agrees1 (l : Launch) (DD : va_G) (dd : ClassId) (h : Nat) (a : Nat → Nat) (f : Nat → Int32) (r : Nat → Nat → Int32) {L D N c : Nat} {G B : Nat → Nat} (x : Nat) (sx : stM L D N c G B f r) (hx0 : x < N) : mG l wM yX2_agrees cX2_agrees 4 .boolean (rmK 1) DD dd h a f r [.int (nI x), .int (-1)] (fun v f' r' => v = nI (cbPos L D G B c x).toNat ∧ f' = f ∧ r' = r) := by
  have q := metM_agrees l DD dd h a f r x 8 (-1) sx hx0 cb_m1
  rw [cbAgr_pos sx.2.2.1] at q
  exact q
set_option maxHeartbeats 4000000 in
set_option maxRecDepth 100000 in
theorem metM_countPossible (l : Launch) (DD : va_G) (dd : ClassId) (h : Nat) (a : Nat → Nat) (f : Nat → Int32) (r : Nat → Nat → Int32) {L D N c : Nat} {G B : Nat → Nat} (w : Nat) (wt : Int32) (sx : stM L D N c G B f r) (hw : ∀ k, k < 8 → (nI k = wt ↔ k = w)) : mG l wM yX2_countPossible cX2_countPossible 4 .int (rmK 2) DD dd h a f r [.int (wt)] (fun v f' r' => v = nI (cbCnt (cbAgr L D G B c w) N) ∧ f' = f ∧ r' = r) := by
  refine mG_start (by decide) (Nat.le_of_ble_eq_true rfl) ?_
  intro p ee s m args below meth cd AA Q ls C I hl ret
  have hx := C.1
  have hb := C.2.1
  have hl : lv_has ls 4 [(0, .ref h), (1, .int (wt))] := hl
  have gm := sx.1
  obtain ⟨hL1, hL4, hD1, hD3, hN1, hN81, hNe⟩ := gm.1
  have tb := sx.2.1
  have hc8 := sx.2.2.1
  have hf5 := sx.2.2.2.1
  have hGB := sx.2.2.2.2
  obtain ⟨P, hP⟩ : ∃ P : Nat → Bool, P = cbAgr L D G B c w := ⟨_, rfl⟩
  refine lv_iconst (v := nI 0) hx hb dX2_countPossible_0 (by decide) ?_
  refine lv_istore_n (lv' := [(2, .int (nI 0)), (0, .ref h), (1, .int (wt))]) hx hb dX2_countPossible_1 rfl hl (by decide) rfl (fun ls hl => ?_)
  refine lv_iconst (v := nI 0) hx hb dX2_countPossible_2 (by decide) ?_
  refine lv_istore_n (lv' := [(3, .int (nI 0)), (2, .int (nI 0)), (0, .ref h), (1, .int (wt))]) hx hb dX2_countPossible_3 rfl hl (by decide) rfl (fun ls hl => ?_)
  have loop4 : ∀ (n : Nat) (i : Nat) (H : Heap) (locs : List Loc) (ls : Array Slot), (N < i + n) → (i ≤ N) → iG wM DD dd AA s.heap h a f r H locs → lv_has ls 4 [(0, .ref h), (1, .int (wt)), (2, .int (nI (cbCnt P i))), (3, .int (nI i))] → W p l ee (rmK 2) s m args below meth cd H locs 0 0 Q (F0 m 4 ls []) := by
    intro n
    induction n with
    | zero =>
      intros; exfalso; omega
    | succ n ih =>
      intro i H locs ls h1 h2 I hl
      refine lv_iload_n hx hb dX2_countPossible_4 rfl (lv_at hl 3 rfl) ?_
      refine lv_aload_n hx hb dX2_countPossible_5 rfl (lv_at hl 0 rfl) ?_
      refine gM_2 C I (v := nI (N)) (gm.2.2.2) dX2_countPossible_6 ?_
      refine n_icge (tgt := 35) hx hb (by omega) (by omega) dX2_countPossible_9 (by decide) (fun c9 => ?_) (fun c9 => ?_)
      · have e5 : N = i := by omega
        subst e5
        refine lv_iload_n hx hb dX2_countPossible_35 rfl (lv_at hl 2 rfl) ?_
        exact ret _ _ _ _ _ _ _ dX2_countPossible_36 (rfl) I (⟨by rw [hP], rfl, rfl⟩)
      · refine lv_aload_n hx hb dX2_countPossible_12 rfl (lv_at hl 0 rfl) ?_
        refine lv_iload_n hx hb dX2_countPossible_13 rfl (lv_at hl 3 rfl) ?_
        refine lv_iload_n hx hb dX2_countPossible_14 rfl (lv_at hl 1 rfl) ?_
        refine mG_call (q := (RX2, TX2, 11)) (ci := 1) C I (metM_agrees l DD dd h a f r i w wt sx c9 hw) ⟨_, rfl⟩ rfl cwM_Magrees cdM_agrees ⟨Nat.le_of_ble_eq_true rfl, Nat.le_of_ble_eq_true rfl⟩ ⟨rfl, rfl⟩ rfl hl.1 (Nat.le_of_ble_eq_true rfl) dX2_countPossible_15 ⟨Nat.zero_le _, Nat.zero_le _⟩ rfl (fun v1 f1 r1 H locs hp1 I => ?_)
        obtain ⟨ev1, ef1, er1⟩ := hp1
        subst ev1
        rw [ef1, er1] at I
        have join28 : W p l ee (rmK 2) s m args below meth cd H locs 0 0 Q (F0 m 28 ls [.int (nI (cbCnt P (i + 1)))]) := by
          refine lv_istore_n (lv' := [(2, .int (nI (cbCnt P (i + 1)))), (0, .ref h), (1, .int (wt)), (3, .int (nI i))]) hx hb dX2_countPossible_28 rfl hl (by decide) rfl (fun ls hl => ?_)
          refine lv_iinc (v := nI (i + 1)) (lv' := [(3, .int (nI (i + 1))), (2, .int (nI (cbCnt P (i + 1)))), (0, .ref h), (1, .int (wt))]) hx hb dX2_countPossible_29 hl (k := 3) rfl (nI_1 _) (by decide) rfl (fun ls hl => ?_)
          refine lv_goto (tgt := 4) hx hb dX2_countPossible_32 (by decide) ?_
          exact ih (i + 1) _ _ _ (by omega) (by omega) I (lv_sub hl [2, 3, 1, 0] rfl)
        refine n_ifeq (tgt := 27) hx hb (Nat.lt_of_le_of_lt (Bool.toNat_le _) (by decide)) dX2_countPossible_18 (by decide) (fun c18 => ?_) (fun c18 => ?_)
        · refine lv_iload_n hx hb dX2_countPossible_27 rfl (lv_at hl 2 rfl) ?_
          refine w_top (v := nI (cbCnt P (i + 1))) (by rw [cbCnt_f (by rw [hP]; cases hc : cbAgr L D G B c w i <;> simp_all)]) ?_
          exact join28
        · refine lv_iload_n hx hb dX2_countPossible_21 rfl (lv_at hl 2 rfl) ?_
          refine lv_iconst (v := nI 1) hx hb dX2_countPossible_22 (by decide) ?_
          refine n_add hx hb dX2_countPossible_23 ?_
          refine lv_goto (tgt := 28) hx hb dX2_countPossible_24 (by decide) ?_
          refine w_top (v := nI (cbCnt P (i + 1))) (by rw [cbCnt_t (by rw [hP]; cases hc : cbAgr L D G B c w i <;> simp_all)]) ?_
          exact join28
  exact loop4 (N + 1) 0 _ _ _ (by omega) (by omega) I (lv_sub hl [2, 3, 1, 0] rfl)
theorem metM_countPossible1 (l : Launch) (DD : va_G) (dd : ClassId) (h : Nat) (a : Nat → Nat) (f : Nat → Int32) (r : Nat → Nat → Int32) {L D N c : Nat} {G B : Nat → Nat} (sx : stM L D N c G B f r) : mG l wM yX2_countPossible cX2_countPossible 4 .int (rmK 2) DD dd h a f r [.int (-1)] (fun v f' r' => v = nI (cbCnt (cbPos L D G B c) N) ∧ f' = f ∧ r' = r) := by
  have q := metM_countPossible l DD dd h a f r 8 (-1) sx cb_m1
  rw [cbAgr_pos sx.2.2.1] at q
  exact q
set_option maxHeartbeats 4000000 in
set_option maxRecDepth 100000 in
theorem metM_possible (l : Launch) (DD : va_G) (dd : ClassId) (h : Nat) (a : Nat → Nat) (f : Nat → Int32) (r : Nat → Nat → Int32) {L D N c : Nat} {G B : Nat → Nat} (sx : stM L D N c G B f r) : mG l wM yX2_possible cX2_possible 1 .int (rmK 3) DD dd h a f r [] (fun v f' r' => v = nI (cbCnt (cbPos L D G B c) N) ∧ f' = f ∧ r' = r) := by
  refine mG_start (by decide) (Nat.le_of_ble_eq_true rfl) ?_
  intro p ee s m args below meth cd AA Q ls C I hl ret
  have hx := C.1
  have hb := C.2.1
  have hl : lv_has ls 1 [(0, .ref h)] := hl
  refine lv_aload_n hx hb dX2_possible_0 rfl (lv_at hl 0 rfl) ?_
  refine lv_iconst (v := -1) hx hb dX2_possible_1 (by decide) ?_
  refine mG_call (q := (RX2, TX2, 11)) (ci := 1) C I (metM_countPossible1 l DD dd h a f r sx) ⟨_, rfl⟩ rfl cwM_McountPossible cdM_countPossible ⟨Nat.le_of_ble_eq_true rfl, Nat.le_of_ble_eq_true rfl⟩ ⟨rfl, rfl⟩ rfl hl.1 (Nat.le_of_ble_eq_true rfl) dX2_possible_2 ⟨Nat.zero_le _, Nat.zero_le _⟩ rfl (fun v1 f1 r1 H locs hp1 I => ?_)
  obtain ⟨ev1, ef1, er1⟩ := hp1
  subst ev1
  rw [ef1, er1] at I
  exact ret _ _ _ _ _ _ _ dX2_possible_5 (rfl) I (⟨rfl, rfl, rfl⟩)
set_option maxHeartbeats 4000000 in
set_option maxRecDepth 100000 in
theorem metM_tell (l : Launch) (DD : va_G) (dd : ClassId) (h : Nat) (a : Nat → Nat) (f : Nat → Int32) (r : Nat → Nat → Int32) {L D N c : Nat} {G B : Nat → Nat} (x b w : Int32) (sx : stM L D N c G B f r) : mG l wM yX2_tell cX2_tell 4 .int (rmK 3) DD dd h a f r [.int (x), .int (b), .int (w)] (fun v f' r' => (¬ okT N x b w ∧ v = -1 ∧ f' = f ∧ r' = r) ∨ (okT N x b w ∧ c = 8 ∧ v = -2 ∧ f' = f ∧ r' = r) ∨ ∃ i b' w', i < N ∧ b' ≤ 4 ∧ w' ≤ 4 ∧ x = nI i ∧ b = nI b' ∧ w = nI w' ∧ c < 8 ∧ v = nI (cbCnt (cbPos L D (upN G c i) (upN B c (10 * b' + w')) (c + 1)) N) ∧ stM L D N (c + 1) (upN G c i) (upN B c (10 * b' + w')) f' r') := by
  refine mG_start (by decide) (Nat.le_of_ble_eq_true rfl) ?_
  intro p ee s m args below meth cd AA Q ls C I hl ret
  have hx := C.1
  have hb := C.2.1
  have hl : lv_has ls 4 [(0, .ref h), (1, .int (x)), (2, .int (b)), (3, .int (w))] := hl
  have gm := sx.1
  obtain ⟨hL1, hL4, hD1, hD3, hN1, hN81, hNe⟩ := gm.1
  have tb := sx.2.1
  have hc8 := sx.2.2.1
  have hf5 := sx.2.2.2.1
  have hGB := sx.2.2.2.2
  refine lv_aload_n hx hb dX2_tell_0 rfl (lv_at hl 0 rfl) ?_
  refine lv_iload_n hx hb dX2_tell_1 rfl (lv_at hl 1 rfl) ?_
  refine mG_call (q := (RX2, TX2, 11)) (ci := 1) C I (metM_isCode l DD dd h a f r x gm) ⟨_, rfl⟩ rfl cwM_MisCode cdM_isCode ⟨Nat.le_of_ble_eq_true rfl, Nat.le_of_ble_eq_true rfl⟩ ⟨rfl, rfl⟩ rfl hl.1 (Nat.le_of_ble_eq_true rfl) dX2_tell_2 ⟨Nat.zero_le _, Nat.zero_le _⟩ rfl (fun v1 f1 r1 H locs hp1 I => ?_)
  obtain ⟨hqa, ef1, er1⟩ := hp1
  rw [ef1, er1] at I
  refine lv_if_eq (tgt := 26) hx hb dX2_tell_5 (by decide) (fun c5 => ?_) (fun c5 => ?_)
  · have hq : ¬ okT N x b w := by
      rcases hqa with ⟨q, -⟩ | ⟨-, q⟩
      · rw [q] at c5; exact absurd c5 (by decide)
      · exact fun z => q z.1
    refine lv_iconst (v := -1) hx hb dX2_tell_26 (by decide) ?_
    exact ret _ _ _ _ _ _ _ dX2_tell_27 (rfl) I (Or.inl ⟨hq, rfl, rfl, rfl⟩)
  · have hx1 : cbIs N x := by
      rcases hqa with ⟨-, q⟩ | ⟨q, -⟩
      · exact q
      · exact absurd q c5
    refine lv_iload_n hx hb dX2_tell_8 rfl (lv_at hl 2 rfl) ?_
    refine lv_if_lt (tgt := 26) hx hb dX2_tell_9 (by decide) (fun c9 => ?_) (fun c9 => ?_)
    · have hq : ¬ okT N x b w := fun z => cbIs_neg (by decide) c9 z.2.1
      refine lv_iconst (v := -1) hx hb dX2_tell_26 (by decide) ?_
      exact ret _ _ _ _ _ _ _ dX2_tell_27 (rfl) I (Or.inl ⟨hq, rfl, rfl, rfl⟩)
    · refine lv_iload_n hx hb dX2_tell_12 rfl (lv_at hl 2 rfl) ?_
      refine lv_iconst (v := nI 4) hx hb dX2_tell_13 (by decide) ?_
      refine lv_icmp_gt (tgt := 26) hx hb dX2_tell_14 (by decide) (fun c14 => ?_) (fun c14 => ?_)
      · have hq : ¬ okT N x b w := fun z => cbIs5_big (Int32.not_le.mpr c14) z.2.1
        refine lv_iconst (v := -1) hx hb dX2_tell_26 (by decide) ?_
        exact ret _ _ _ _ _ _ _ dX2_tell_27 (rfl) I (Or.inl ⟨hq, rfl, rfl, rfl⟩)
      · have hb1 : cbIs 5 b := cbIs5_of c9 (Int32.not_lt.mp c14)
        refine lv_iload_n hx hb dX2_tell_17 rfl (lv_at hl 3 rfl) ?_
        refine lv_if_lt (tgt := 26) hx hb dX2_tell_18 (by decide) (fun c18 => ?_) (fun c18 => ?_)
        · have hq : ¬ okT N x b w := fun z => cbIs_neg (by decide) c18 z.2.2
          refine lv_iconst (v := -1) hx hb dX2_tell_26 (by decide) ?_
          exact ret _ _ _ _ _ _ _ dX2_tell_27 (rfl) I (Or.inl ⟨hq, rfl, rfl, rfl⟩)
        · refine lv_iload_n hx hb dX2_tell_21 rfl (lv_at hl 3 rfl) ?_
          refine lv_iconst (v := nI 4) hx hb dX2_tell_22 (by decide) ?_
          refine lv_icmp_le (tgt := 28) hx hb dX2_tell_23 (by decide) (fun c23 => ?_) (fun c23 => ?_)
          · have hok : okT N x b w := ⟨hx1, hb1, cbIs5_of c18 c23⟩
            refine lv_aload_n hx hb dX2_tell_28 rfl (lv_at hl 0 rfl) ?_
            refine gM_5 C I (v := nI (c)) (hf5) dX2_tell_29 ?_
            refine lv_bipush (v := nI 8) hx hb dX2_tell_32 (by decide) ?_
            refine n_icne (tgt := 40) hx hb (by omega) (by omega) dX2_tell_34 (by decide) (fun c34 => ?_) (fun c34 => ?_)
            · obtain ⟨⟨i, hi, rfl⟩, ⟨b', hb', rfl⟩, ⟨w', hw', rfl⟩⟩ := hok
              refine lv_aload_n hx hb dX2_tell_40 rfl (lv_at hl 0 rfl) ?_
              refine gM_3 C I dX2_tell_41 ?_
              refine lv_aload_n hx hb dX2_tell_44 rfl (lv_at hl 0 rfl) ?_
              refine gM_5 C I (v := nI (c)) (hf5) dX2_tell_45 ?_
              refine lv_iload_n hx hb dX2_tell_48 rfl (lv_at hl 1 rfl) ?_
              refine stM_3 C I (c) (rfl) (by omega) dX2_tell_49 (fun H locs rA erA orA I => ?_)
              refine lv_aload_n hx hb dX2_tell_50 rfl (lv_at hl 0 rfl) ?_
              refine gM_4 C I dX2_tell_51 ?_
              refine lv_aload_n hx hb dX2_tell_54 rfl (lv_at hl 0 rfl) ?_
              refine gM_5 C I (v := nI (c)) (hf5) dX2_tell_55 ?_
              refine lv_bipush (v := nI 10) hx hb dX2_tell_58 (by decide) ?_
              refine lv_iload_n hx hb dX2_tell_60 rfl (lv_at hl 2 rfl) ?_
              refine n_mul hx hb dX2_tell_61 ?_
              refine lv_iload_n hx hb dX2_tell_62 rfl (lv_at hl 3 rfl) ?_
              refine n_add hx hb dX2_tell_63 ?_
              refine stM_4 C I (c) (rfl) (by omega) dX2_tell_64 (fun H locs rB erB orB I => ?_)
              refine lv_aload_n hx hb dX2_tell_65 rfl (lv_at hl 0 rfl) ?_
              refine lv_dup hx hb dX2_tell_66 rfl ?_
              refine gM_5 C I (v := nI (c)) (hf5) dX2_tell_67 ?_
              refine lv_iconst (v := nI 1) hx hb dX2_tell_70 (by decide) ?_
              refine n_add hx hb dX2_tell_71 ?_
              refine pM_5 C I dX2_tell_72 (fun H locs fC efC ofC I => ?_)
              refine lv_aload_n hx hb dX2_tell_75 rfl (lv_at hl 0 rfl) ?_
              refine lv_iconst (v := -1) hx hb dX2_tell_76 (by decide) ?_
              have sx5 : stM L D N (c + 1) (upN G c i) (upN B c (10 * b' + w')) fC rB := stM_tell sx (by omega) hi (by omega) efC ofC (by rw [orB 10 (by decide), orA 10 (by decide)]) (by rw [orB 3 (by decide), erA]) (by rw [erB, orA 4 (by decide)])
              refine mG_call (q := (RX2, TX2, 11)) (ci := 1) C I (metM_countPossible1 l DD dd h a fC rB sx5) ⟨_, rfl⟩ rfl cwM_McountPossible cdM_countPossible ⟨Nat.le_of_ble_eq_true rfl, Nat.le_of_ble_eq_true rfl⟩ ⟨rfl, rfl⟩ rfl hl.1 (Nat.le_of_ble_eq_true rfl) dX2_tell_77 ⟨Nat.zero_le _, Nat.zero_le _⟩ rfl (fun v2 f2 r2 H locs hp2 I => ?_)
              obtain ⟨ev2, ef2, er2⟩ := hp2
              subst ev2
              rw [ef2, er2] at I
              exact ret _ _ _ _ _ _ _ dX2_tell_80 (rfl) I (Or.inr (Or.inr ⟨i, b', w', hi, by omega, by omega, rfl, rfl, rfl, by omega, rfl, sx5⟩))
            · refine lv_bipush (v := -2) hx hb dX2_tell_37 (by decide) ?_
              exact ret _ _ _ _ _ _ _ dX2_tell_39 (rfl) I (Or.inr (Or.inl ⟨hok, c34, rfl, rfl, rfl⟩))
          · have hq : ¬ okT N x b w := fun z => cbIs5_big c23 z.2.2
            refine lv_iconst (v := -1) hx hb dX2_tell_26 (by decide) ?_
            exact ret _ _ _ _ _ _ _ dX2_tell_27 (rfl) I (Or.inl ⟨hq, rfl, rfl, rfl⟩)
set_option maxHeartbeats 4000000 in
set_option maxRecDepth 100000 in
theorem metM_forget (l : Launch) (DD : va_G) (dd : ClassId) (h : Nat) (a : Nat → Nat) (f : Nat → Int32) (r : Nat → Nat → Int32) {L D N c : Nat} {G B : Nat → Nat} (sx : stM L D N c G B f r) : mG l wM yX2_forget cX2_forget 1 .int (rmK 3) DD dd h a f r [] (fun v f' r' => (c = 0 ∧ v = -3 ∧ f' = f ∧ r' = r) ∨ (0 < c ∧ v = nI (cbCnt (cbPos L D G B (c - 1)) N) ∧ stM L D N (c - 1) G B f' r')) := by
  refine mG_start (by decide) (Nat.le_of_ble_eq_true rfl) ?_
  intro p ee s m args below meth cd AA Q ls C I hl ret
  have hx := C.1
  have hb := C.2.1
  have hl : lv_has ls 1 [(0, .ref h)] := hl
  have gm := sx.1
  obtain ⟨hL1, hL4, hD1, hD3, hN1, hN81, hNe⟩ := gm.1
  have tb := sx.2.1
  have hc8 := sx.2.2.1
  have hf5 := sx.2.2.2.1
  have hGB := sx.2.2.2.2
  refine lv_aload_n hx hb dX2_forget_0 rfl (lv_at hl 0 rfl) ?_
  refine gM_5 C I (v := nI (c)) (hf5) dX2_forget_1 ?_
  refine n_ifne (tgt := 10) hx hb (by omega) dX2_forget_4 (by decide) (fun c4 => ?_) (fun c4 => ?_)
  · refine lv_aload_n hx hb dX2_forget_10 rfl (lv_at hl 0 rfl) ?_
    refine lv_dup hx hb dX2_forget_11 rfl ?_
    refine gM_5 C I (v := nI (c)) (hf5) dX2_forget_12 ?_
    refine lv_iconst (v := nI 1) hx hb dX2_forget_15 (by decide) ?_
    refine n_sub hx hb (by omega) dX2_forget_16 ?_
    refine pM_5 C I dX2_forget_17 (fun H locs fC efC ofC I => ?_)
    refine lv_aload_n hx hb dX2_forget_20 rfl (lv_at hl 0 rfl) ?_
    refine lv_iconst (v := -1) hx hb dX2_forget_21 (by decide) ?_
    have sx5 : stM L D N (c - 1) G B fC r := stM_forget sx efC ofC
    refine mG_call (q := (RX2, TX2, 11)) (ci := 1) C I (metM_countPossible1 l DD dd h a fC r sx5) ⟨_, rfl⟩ rfl cwM_McountPossible cdM_countPossible ⟨Nat.le_of_ble_eq_true rfl, Nat.le_of_ble_eq_true rfl⟩ ⟨rfl, rfl⟩ rfl hl.1 (Nat.le_of_ble_eq_true rfl) dX2_forget_22 ⟨Nat.zero_le _, Nat.zero_le _⟩ rfl (fun v1 f1 r1 H locs hp1 I => ?_)
    obtain ⟨ev1, ef1, er1⟩ := hp1
    subst ev1
    rw [ef1, er1] at I
    exact ret _ _ _ _ _ _ _ dX2_forget_25 (rfl) I (Or.inr ⟨by omega, rfl, sx5⟩)
  · refine lv_bipush (v := -3) hx hb dX2_forget_7 (by decide) ?_
    exact ret _ _ _ _ _ _ _ dX2_forget_9 (rfl) I (Or.inl ⟨c4, rfl, rfl, rfl⟩)
set_option maxHeartbeats 4000000 in
set_option maxRecDepth 100000 in
theorem metM_code (l : Launch) (DD : va_G) (dd : ClassId) (h : Nat) (a : Nat → Nat) (f : Nat → Int32) (r : Nat → Nat → Int32) {L D N c : Nat} {G B : Nat → Nat} (v : Int32) (sx : stM L D N c G B f r) : mG l wM yX2_code cX2_code 4 .int (rmK 2) DD dd h a f r [.int (v)] (fun z f' r' => z = cbCode (cbPos L D G B c) v N 0 0 ∧ f' = f ∧ r' = r) := by
  refine mG_start (by decide) (Nat.le_of_ble_eq_true rfl) ?_
  intro p ee s m args below meth cd AA Q ls C I hl ret
  have hx := C.1
  have hb := C.2.1
  have hl : lv_has ls 4 [(0, .ref h), (1, .int (v))] := hl
  have gm := sx.1
  obtain ⟨hL1, hL4, hD1, hD3, hN1, hN81, hNe⟩ := gm.1
  have tb := sx.2.1
  have hc8 := sx.2.2.1
  have hf5 := sx.2.2.2.1
  have hGB := sx.2.2.2.2
  obtain ⟨P, hP⟩ : ∃ P, P = cbPos L D G B c := ⟨_, rfl⟩
  obtain ⟨res, hres⟩ : ∃ z, z = cbCode P v N 0 0 := ⟨_, rfl⟩
  refine lv_iload_n hx hb dX2_code_0 rfl (lv_at hl 1 rfl) ?_
  refine w_top (v := (v - nI (cbCnt P 0))) (cb_sub00 v) ?_
  refine lv_istore_n (lv' := [(2, .int (v - nI (cbCnt P 0))), (0, .ref h), (1, .int (v))]) hx hb dX2_code_1 rfl hl (by decide) rfl (fun ls hl => ?_)
  refine lv_iconst (v := nI 0) hx hb dX2_code_2 (by decide) ?_
  refine lv_istore_n (lv' := [(3, .int (nI 0)), (2, .int (v - nI (cbCnt P 0))), (0, .ref h), (1, .int (v))]) hx hb dX2_code_3 rfl hl (by decide) rfl (fun ls hl => ?_)
  have loop4 : ∀ (n : Nat) (i : Nat) (H : Heap) (locs : List Loc) (ls : Array Slot), (N < i + n) → (i ≤ N) → (cbCode P v (N - i) i (cbCnt P i) = res) → iG wM DD dd AA s.heap h a f r H locs → lv_has ls 4 [(0, .ref h), (1, .int (v)), (2, .int (v - nI (cbCnt P i))), (3, .int (nI i))] → W p l ee (rmK 2) s m args below meth cd H locs 0 0 Q (F0 m 4 ls []) := by
    intro n
    induction n with
    | zero =>
      intros; exfalso; omega
    | succ n ih =>
      intro i H locs ls h1 h2 h3 I hl
      refine lv_iload_n hx hb dX2_code_4 rfl (lv_at hl 3 rfl) ?_
      refine lv_aload_n hx hb dX2_code_5 rfl (lv_at hl 0 rfl) ?_
      refine gM_2 C I (v := nI (N)) (gm.2.2.2) dX2_code_6 ?_
      refine n_icge (tgt := 36) hx hb (by omega) (by omega) dX2_code_9 (by decide) (fun c9 => ?_) (fun c9 => ?_)
      · refine lv_bipush (v := -3) hx hb dX2_code_36 (by decide) ?_
        exact ret _ _ _ _ _ _ _ dX2_code_38 (rfl) I (⟨by rw [← hP, ← hres, ← h3, show N - i = 0 by omega]; rfl, rfl, rfl⟩)
      · have eN : N - i = (N - (i + 1)) + 1 := by omega
        rw [eN] at h3
        refine lv_aload_n hx hb dX2_code_12 rfl (lv_at hl 0 rfl) ?_
        refine lv_iload_n hx hb dX2_code_13 rfl (lv_at hl 3 rfl) ?_
        refine lv_iconst (v := -1) hx hb dX2_code_14 (by decide) ?_
        refine mG_call (q := (RX2, TX2, 11)) (ci := 1) C I (metM_agrees1 l DD dd h a f r i sx c9) ⟨_, rfl⟩ rfl cwM_Magrees cdM_agrees ⟨Nat.le_of_ble_eq_true rfl, Nat.le_of_ble_eq_true rfl⟩ ⟨rfl, rfl⟩ rfl hl.1 (Nat.le_of_ble_eq_true rfl) dX2_code_15 ⟨Nat.zero_le _, Nat.zero_le _⟩ rfl (fun v1 f1 r1 H locs hp1 I => ?_)
        obtain ⟨ev1, ef1, er1⟩ := hp1
        subst ev1
        rw [ef1, er1] at I
        refine n_ifeq (tgt := 30) hx hb (Nat.lt_of_le_of_lt (Bool.toNat_le _) (by decide)) dX2_code_18 (by decide) (fun c18 => ?_) (fun c18 => ?_)
        · have hp : P i = false := by rw [hP]; cases hc : cbPos L D G B c i <;> simp_all
          have h9 : cbCode P v (N - (i + 1)) (i + 1) (cbCnt P (i + 1)) = res := by rw [cbCnt_f hp, ← h3, cbCode_f hp]
          rw [← cbCnt_f hp] at hl
          refine lv_iinc (v := nI (i + 1)) (lv' := [(3, .int (nI (i + 1))), (0, .ref h), (1, .int (v)), (2, .int (v - nI (cbCnt P (i + 1))))]) hx hb dX2_code_30 hl (k := 3) rfl (nI_1 _) (by decide) rfl (fun ls hl => ?_)
          refine lv_goto (tgt := 4) hx hb dX2_code_33 (by decide) ?_
          exact ih (i + 1) _ _ _ (by omega) (by omega) h9 I (lv_sub hl [1, 2, 3, 0] rfl)
        · have hp : P i = true := by rw [hP]; cases hc : cbPos L D G B c i <;> simp_all
          refine lv_iload_n hx hb dX2_code_21 rfl (lv_at hl 2 rfl) ?_
          refine lv_if_ne (tgt := 27) hx hb dX2_code_22 (by decide) (fun c22 => ?_) (fun c22 => ?_)
          · have h9 : cbCode P v (N - (i + 1)) (i + 1) (cbCnt P (i + 1)) = res := by rw [cbCnt_t hp, ← h3, cbCode_t hp (fun z => c22 ((cb_sub0 _ _).mpr z))]
            refine lv_iinc (v := (v - nI (cbCnt P (i + 1)))) (lv' := [(2, .int (v - nI (cbCnt P (i + 1)))), (0, .ref h), (1, .int (v)), (3, .int (nI i))]) hx hb dX2_code_27 hl (k := 2) rfl (by rw [cbCnt_t hp]; exact cb_dec v _) (by decide) rfl (fun ls hl => ?_)
            refine lv_iinc (v := nI (i + 1)) (lv' := [(3, .int (nI (i + 1))), (2, .int (v - nI (cbCnt P (i + 1)))), (0, .ref h), (1, .int (v))]) hx hb dX2_code_30 hl (k := 3) rfl (nI_1 _) (by decide) rfl (fun ls hl => ?_)
            refine lv_goto (tgt := 4) hx hb dX2_code_33 (by decide) ?_
            exact ih (i + 1) _ _ _ (by omega) (by omega) h9 I (lv_sub hl [2, 3, 1, 0] rfl)
          · refine lv_iload_n hx hb dX2_code_25 rfl (lv_at hl 3 rfl) ?_
            exact ret _ _ _ _ _ _ _ dX2_code_26 (rfl) I (⟨by rw [← hP, ← hres, ← h3, cbCode_r hp ((cb_sub0 _ _).mp c22)], rfl, rfl⟩)
  exact loop4 (N + 1) 0 _ _ _ (by omega) (by omega) hres.symm I (lv_sub hl [2, 3, 1, 0] rfl)
set_option maxHeartbeats 4000000 in
set_option maxRecDepth 100000 in
theorem metM_canBe (l : Launch) (DD : va_G) (dd : ClassId) (h : Nat) (a : Nat → Nat) (f : Nat → Int32) (r : Nat → Nat → Int32) {L D N c : Nat} {G B : Nat → Nat} (x : Int32) (sx : stM L D N c G B f r) : mG l wM yX2_canBe cX2_canBe 2 .boolean (rmK 2) DD dd h a f r [.int (x)] (fun v f' r' => (v = nI 1 ∧ (∃ j, j < N ∧ x = nI j ∧ cbPos L D G B c j = true) ∨ v = nI 0 ∧ ¬ ∃ j, j < N ∧ x = nI j ∧ cbPos L D G B c j = true) ∧ f' = f ∧ r' = r) := by
  refine mG_start (by decide) (Nat.le_of_ble_eq_true rfl) ?_
  intro p ee s m args below meth cd AA Q ls C I hl ret
  have hx := C.1
  have hb := C.2.1
  have hl : lv_has ls 2 [(0, .ref h), (1, .int (x))] := hl
  have gm := sx.1
  obtain ⟨hL1, hL4, hD1, hD3, hN1, hN81, hNe⟩ := gm.1
  have tb := sx.2.1
  have hc8 := sx.2.2.1
  have hf5 := sx.2.2.2.1
  have hGB := sx.2.2.2.2
  refine lv_aload_n hx hb dX2_canBe_0 rfl (lv_at hl 0 rfl) ?_
  refine lv_iload_n hx hb dX2_canBe_1 rfl (lv_at hl 1 rfl) ?_
  refine mG_call (q := (RX2, TX2, 11)) (ci := 1) C I (metM_isCode l DD dd h a f r x gm) ⟨_, rfl⟩ rfl cwM_MisCode cdM_isCode ⟨Nat.le_of_ble_eq_true rfl, Nat.le_of_ble_eq_true rfl⟩ ⟨rfl, rfl⟩ rfl hl.1 (Nat.le_of_ble_eq_true rfl) dX2_canBe_2 ⟨Nat.zero_le _, Nat.zero_le _⟩ rfl (fun v1 f1 r1 H locs hp1 I => ?_)
  obtain ⟨hqa, ef1, er1⟩ := hp1
  rw [ef1, er1] at I
  refine lv_if_eq (tgt := 21) hx hb dX2_canBe_5 (by decide) (fun c5 => ?_) (fun c5 => ?_)
  · have hq : ¬ ∃ j, j < N ∧ x = nI j ∧ cbPos L D G B c j = true := by
      rcases hqa with ⟨q, -⟩ | ⟨-, q⟩
      · rw [q] at c5; exact absurd c5 (by decide)
      · exact fun ⟨j, z1, z2, _⟩ => q ⟨j, z1, z2⟩
    refine lv_iconst (v := nI 0) hx hb dX2_canBe_21 (by decide) ?_
    exact ret _ _ _ _ _ _ _ dX2_canBe_22 (rfl) I (by first | exact ⟨Or.inr ⟨rfl, hq⟩, rfl, rfl⟩ | exact ⟨Or.inl ⟨rfl, j, hj, rfl, hp⟩, rfl, rfl⟩)
  · obtain ⟨j, hj, rfl⟩ : cbIs N x := by
      rcases hqa with ⟨-, q⟩ | ⟨q, -⟩
      · exact q
      · exact absurd q c5
    refine lv_aload_n hx hb dX2_canBe_8 rfl (lv_at hl 0 rfl) ?_
    refine lv_iload_n hx hb dX2_canBe_9 rfl (lv_at hl 1 rfl) ?_
    refine lv_iconst (v := -1) hx hb dX2_canBe_10 (by decide) ?_
    refine mG_call (q := (RX2, TX2, 11)) (ci := 1) C I (metM_agrees1 l DD dd h a f r j sx hj) ⟨_, rfl⟩ rfl cwM_Magrees cdM_agrees ⟨Nat.le_of_ble_eq_true rfl, Nat.le_of_ble_eq_true rfl⟩ ⟨rfl, rfl⟩ rfl hl.1 (Nat.le_of_ble_eq_true rfl) dX2_canBe_11 ⟨Nat.zero_le _, Nat.zero_le _⟩ rfl (fun v2 f2 r2 H locs hp2 I => ?_)
    obtain ⟨ev2, ef2, er2⟩ := hp2
    subst ev2
    rw [ef2, er2] at I
    refine n_ifeq (tgt := 21) hx hb (Nat.lt_of_le_of_lt (Bool.toNat_le _) (by decide)) dX2_canBe_14 (by decide) (fun c14 => ?_) (fun c14 => ?_)
    · have hq : ¬ ∃ j', j' < N ∧ nI j = nI j' ∧ cbPos L D G B c j' = true := by
        rintro ⟨j2, z1, z2, z3⟩
        have z4 := (nI_eq (by omega) (by omega)).mp z2
        subst z4
        rw [z3] at c14; exact absurd c14 (by decide)
      refine lv_iconst (v := nI 0) hx hb dX2_canBe_21 (by decide) ?_
      exact ret _ _ _ _ _ _ _ dX2_canBe_22 (rfl) I (by first | exact ⟨Or.inr ⟨rfl, hq⟩, rfl, rfl⟩ | exact ⟨Or.inl ⟨rfl, j, hj, rfl, hp⟩, rfl, rfl⟩)
    · have hp : cbPos L D G B c j = true := by cases hc : cbPos L D G B c j <;> simp_all
      refine lv_iconst (v := nI 1) hx hb dX2_canBe_17 (by decide) ?_
      refine lv_goto (tgt := 22) hx hb dX2_canBe_18 (by decide) ?_
      exact ret _ _ _ _ _ _ _ dX2_canBe_22 (rfl) I (by first | exact ⟨Or.inr ⟨rfl, hq⟩, rfl, rfl⟩ | exact ⟨Or.inl ⟨rfl, j, hj, rfl, hp⟩, rfl, rfl⟩)
end
section
set_option maxRecDepth 100000
set_option maxHeartbeats 4000000 in
set_option maxRecDepth 100000 in
theorem metM_part (l : Launch) (DD : va_G) (dd : ClassId) (h : Nat) (a : Nat → Nat) (f : Nat → Int32) (r : Nat → Nat → Int32) {L D N c : Nat} {G B : Nat → Nat} (g : Nat) (sx : stM L D N c G B f r) (hg : g < N) : mGv l wM yX2_part cX2_part 3 (rmK 2) DD dd h a f r [.int (nI g)] (fun f' r' => f' = f ∧ (∀ j, j ≠ 9 → r' j = r j) ∧ ∀ t, t < 60 → r' 9 t = nI (cbPart L D (cbPos L D G B c) N g t)) := by
  refine mGv_start (by decide) (Nat.le_of_ble_eq_true rfl) ?_
  intro p ee s m args below meth cd AA Q ls C I hl ret
  have hx := C.1
  have hb := C.2.1
  have hl : lv_has ls 3 [(0, .ref h), (1, .int (nI g))] := hl
  have gm := sx.1
  obtain ⟨hL1, hL4, hD1, hD3, hN1, hN81, hNe⟩ := gm.1
  have tb := sx.2.1
  have hc8 := sx.2.2.1
  have hf5 := sx.2.2.2.1
  have hGB := sx.2.2.2.2
  obtain ⟨K, hK⟩ : ∃ K : Nat → Nat → Bool, K = (fun t x => cbPos L D G B c x && decide (cbAns L D g x = t)) := ⟨_, rfl⟩
  refine lv_iconst (v := nI 0) hx hb dX2_part_0 (by decide) ?_
  refine lv_istore_n (lv' := [(2, .int (nI 0)), (0, .ref h), (1, .int (nI g))]) hx hb dX2_part_1 rfl hl (by decide) rfl (fun ls hl => ?_)
  have loop2 : ∀ (n : Nat) (t : Nat) (rL : Nat → Nat → Int32) (H : Heap) (locs : List Loc) (ls : Array Slot), (60 < t + n) → (t ≤ 60) → (∀ j, j ≠ 9 → rL j = r j) → (∀ y, y < t → rL 9 y = nI 0) → iG wM DD dd AA s.heap h a f rL H locs → lv_has ls 3 [(0, .ref h), (1, .int (nI g)), (2, .int (nI t))] → W p l ee (rmK 2) s m args below meth cd H locs 0 0 Q (F0 m 2 ls []) := by
    intro n
    induction n with
    | zero =>
      intros; exfalso; omega
    | succ n ih =>
      intro t rL H locs ls h1 h2 hr hy I hl
      refine lv_iload_n hx hb dX2_part_2 rfl (lv_at hl 2 rfl) ?_
      refine lv_bipush (v := nI 60) hx hb dX2_part_3 (by decide) ?_
      refine n_icge (tgt := 21) hx hb (by omega) (by omega) dX2_part_5 (by decide) (fun c5 => ?_) (fun c5 => ?_)
      · have hy : ∀ y, y < 60 → rL 9 y = nI 0 := fun y hy0 => hy y (by omega)
        clear h1 h2 ih c5
        refine lv_iconst (v := nI 0) hx hb dX2_part_21 (by decide) ?_
        refine lv_istore_n (lv' := [(2, .int (nI 0)), (0, .ref h), (1, .int (nI g))]) hx hb dX2_part_22 rfl hl (by decide) rfl (fun ls hl => ?_)
        have loop23 : ∀ (n2 : Nat) (x : Nat) (rB : Nat → Nat → Int32) (H : Heap) (locs : List Loc) (ls : Array Slot), (N < x + n2) → (x ≤ N) → (∀ j, j ≠ 9 → rB j = r j) → (∀ t, t < 60 → rB 9 t = nI (cbCnt (K t) x)) → iG wM DD dd AA s.heap h a f rB H locs → lv_has ls 3 [(0, .ref h), (1, .int (nI g)), (2, .int (nI x))] → W p l ee (rmK 2) s m args below meth cd H locs 0 0 Q (F0 m 23 ls []) := by
          intro n2
          induction n2 with
          | zero =>
            intros; exfalso; omega
          | succ n2 ih2 =>
            intro x rB H locs ls h3 h4 hrB hyB I hl
            have sxB : stM L D N c G B f rB := sx.keep (fun _ _ => rfl) (hrB 3 (by decide)) (hrB 4 (by decide)) (hrB 10 (by decide))
            refine lv_iload_n hx hb dX2_part_23 rfl (lv_at hl 2 rfl) ?_
            refine lv_aload_n hx hb dX2_part_24 rfl (lv_at hl 0 rfl) ?_
            refine gM_2 C I (v := nI (N)) (gm.2.2.2) dX2_part_25 ?_
            refine n_icge (tgt := 61) hx hb (by omega) (by omega) dX2_part_28 (by decide) (fun c28 => ?_) (fun c28 => ?_)
            · have e5 : N = x := by omega
              subst e5
              exact ret _ _ _ _ _ _ dX2_part_61 I (⟨rfl, hrB, fun t ht => by rw [hyB t ht, hK]; rfl⟩)
            · refine lv_aload_n hx hb dX2_part_31 rfl (lv_at hl 0 rfl) ?_
              refine lv_iload_n hx hb dX2_part_32 rfl (lv_at hl 2 rfl) ?_
              refine lv_iconst (v := -1) hx hb dX2_part_33 (by decide) ?_
              refine mG_call (q := (RX2, TX2, 11)) (ci := 1) C I (metM_agrees1 l DD dd h a f rB x sxB c28) ⟨_, rfl⟩ rfl cwM_Magrees cdM_agrees ⟨Nat.le_of_ble_eq_true rfl, Nat.le_of_ble_eq_true rfl⟩ ⟨rfl, rfl⟩ rfl hl.1 (Nat.le_of_ble_eq_true rfl) dX2_part_34 ⟨Nat.zero_le _, Nat.zero_le _⟩ rfl (fun v1 f1 r1 H locs hp1 I => ?_)
              obtain ⟨ev1, ef1, er1⟩ := hp1
              subst ev1
              rw [ef1, er1] at I
              refine n_ifeq (tgt := 55) hx hb (Nat.lt_of_le_of_lt (Bool.toNat_le _) (by decide)) dX2_part_37 (by decide) (fun c37 => ?_) (fun c37 => ?_)
              · have hp : cbPos L D G B c x = false := by cases hc : cbPos L D G B c x <;> simp_all
                have hn1 := hrB
                have hn2 : ∀ t, t < 60 → rB 9 t = nI (cbCnt (K t) (x + 1)) := fun t ht => by
                  rw [hyB t ht, cbCnt_f]
                  rw [hK]; simp [hp]
                refine lv_iinc (v := nI (x + 1)) (lv' := [(2, .int (nI (x + 1))), (0, .ref h), (1, .int (nI g))]) hx hb dX2_part_55 hl (k := 2) rfl (nI_1 _) (by decide) rfl (fun ls hl => ?_)
                refine lv_goto (tgt := 23) hx hb dX2_part_58 (by decide) ?_
                exact ih2 (x + 1) _ _ _ _ (by omega) (by omega) hn1 hn2 I (lv_sub hl [1, 2, 0] rfl)
              · have hp : cbPos L D G B c x = true := by cases hc : cbPos L D G B c x <;> simp_all
                refine lv_aload_n hx hb dX2_part_40 rfl (lv_at hl 0 rfl) ?_
                refine gM_9 C I dX2_part_41 ?_
                refine lv_aload_n hx hb dX2_part_44 rfl (lv_at hl 0 rfl) ?_
                refine lv_iload_n hx hb dX2_part_45 rfl (lv_at hl 1 rfl) ?_
                refine lv_iload_n hx hb dX2_part_46 rfl (lv_at hl 2 rfl) ?_
                refine mG_call (q := (RX2, TX2, 11)) (ci := 1) C I (metM_answerTo l DD dd h a f rB g x hN81 sxB.2.1 hg c28) ⟨_, rfl⟩ rfl cwM_ManswerTo cdM_answerTo ⟨Nat.le_of_ble_eq_true rfl, Nat.le_of_ble_eq_true rfl⟩ ⟨rfl, rfl⟩ rfl hl.1 (Nat.le_of_ble_eq_true rfl) dX2_part_47 ⟨Nat.zero_le _, Nat.zero_le _⟩ rfl (fun v2 f2 r2 H locs hp2 I => ?_)
                obtain ⟨ev2, ef2, er2⟩ := hp2
                subst ev2
                rw [ef2, er2] at I
                refine lv_dup2_11 hx hb dX2_part_50 rfl rfl ?_
                refine ldM_9 C I (cbAns L D g x) (rfl) (Nat.lt_trans (cbAns_lt hD1 hL4 _ _) (by decide)) (v := nI (cbCnt (K (cbAns L D g x)) x)) (hyB _ (Nat.lt_trans (cbAns_lt hD1 hL4 _ _) (by decide))) dX2_part_51 ?_
                refine lv_iconst (v := nI 1) hx hb dX2_part_52 (by decide) ?_
                refine n_add hx hb dX2_part_53 ?_
                refine stM_9 C I (cbAns L D g x) (rfl) (Nat.lt_trans (cbAns_lt hD1 hL4 _ _) (by decide)) dX2_part_54 (fun H locs rC erC orC I => ?_)
                have hn1 : ∀ j, j ≠ 9 → rC j = r j := fun j hj => (orC j hj).trans (hrB j hj)
                have hn2 : ∀ t, t < 60 → rC 9 t = nI (cbCnt (K t) (x + 1)) := fun t ht => by
                  rw [erC]
                  by_cases hta : t = cbAns L D g x
                  · subst hta
                    rw [pk_us, cbCnt_t]
                    rw [hK]; simp [hp]
                  · rw [pk_un hta, hyB t ht, cbCnt_f]
                    rw [hK]; simp [Ne.symm hta]
                refine lv_iinc (v := nI (x + 1)) (lv' := [(2, .int (nI (x + 1))), (0, .ref h), (1, .int (nI g))]) hx hb dX2_part_55 hl (k := 2) rfl (nI_1 _) (by decide) rfl (fun ls hl => ?_)
                refine lv_goto (tgt := 23) hx hb dX2_part_58 (by decide) ?_
                exact ih2 (x + 1) _ _ _ _ (by omega) (by omega) hn1 hn2 I (lv_sub hl [1, 2, 0] rfl)
        exact loop23 (N + 1) 0 _ _ _ _ (by omega) (by omega) hr (fun t ht => hy t ht) I (lv_sub hl [1, 2, 0] rfl)
      · refine lv_aload_n hx hb dX2_part_8 rfl (lv_at hl 0 rfl) ?_
        refine gM_9 C I dX2_part_9 ?_
        refine lv_iload_n hx hb dX2_part_12 rfl (lv_at hl 2 rfl) ?_
        refine lv_iconst (v := nI 0) hx hb dX2_part_13 (by decide) ?_
        refine stM_9 C I (t) (rfl) (by omega) dX2_part_14 (fun H locs rA erA orA I => ?_)
        refine lv_iinc (v := nI (t + 1)) (lv' := [(2, .int (nI (t + 1))), (0, .ref h), (1, .int (nI g))]) hx hb dX2_part_15 hl (k := 2) rfl (nI_1 _) (by decide) rfl (fun ls hl => ?_)
        refine lv_goto (tgt := 2) hx hb dX2_part_18 (by decide) ?_
        refine ih (t + 1) _ _ _ _ (by omega) (by omega) (fun j hj => (orA j hj).trans (hr j hj)) ?_ I (lv_sub hl [1, 2, 0] rfl)
        intro y hyt
        rw [erA]
        by_cases hyx : y = t
        · subst hyx
          rw [pk_us]
        · rw [pk_un hyx]; exact hy y (by omega)
  exact loop2 61 0 _ _ _ _ (by omega) (by omega) (fun _ _ => rfl) (fun y hy0 => absurd hy0 (by omega)) I (lv_sub hl [1, 2, 0] rfl)
set_option maxHeartbeats 4000000 in
set_option maxRecDepth 100000 in
theorem metM_parts (l : Launch) (DD : va_G) (dd : ClassId) (h : Nat) (a : Nat → Nat) (f : Nat → Int32) (r : Nat → Nat → Int32) {L D N c : Nat} {G B : Nat → Nat} (x : Int32) (sx : stM L D N c G B f r) : mG l wM yX2_parts cX2_parts 4 .int (rmK 3) DD dd h a f r [.int (x)] (fun v f' r' => (v = -1 ∧ ¬ cbIs N x ∨ ∃ g, g < N ∧ x = nI g ∧ v = nI (cbParts L D (cbPos L D G B c) N g)) ∧ stM L D N c G B f' r') := by
  refine mG_start (by decide) (Nat.le_of_ble_eq_true rfl) ?_
  intro p ee s m args below meth cd AA Q ls C I hl ret
  have hx := C.1
  have hb := C.2.1
  have hl : lv_has ls 4 [(0, .ref h), (1, .int (x))] := hl
  have gm := sx.1
  obtain ⟨hL1, hL4, hD1, hD3, hN1, hN81, hNe⟩ := gm.1
  have tb := sx.2.1
  have hc8 := sx.2.2.1
  have hf5 := sx.2.2.2.1
  have hGB := sx.2.2.2.2
  refine lv_aload_n hx hb dX2_parts_0 rfl (lv_at hl 0 rfl) ?_
  refine lv_iload_n hx hb dX2_parts_1 rfl (lv_at hl 1 rfl) ?_
  refine mG_call (q := (RX2, TX2, 11)) (ci := 1) C I (metM_isCode l DD dd h a f r x gm) ⟨_, rfl⟩ rfl cwM_MisCode cdM_isCode ⟨Nat.le_of_ble_eq_true rfl, Nat.le_of_ble_eq_true rfl⟩ ⟨rfl, rfl⟩ rfl hl.1 (Nat.le_of_ble_eq_true rfl) dX2_parts_2 ⟨Nat.zero_le _, Nat.zero_le _⟩ rfl (fun v1 f1 r1 H locs hp1 I => ?_)
  obtain ⟨hqa, ef1, er1⟩ := hp1
  rw [ef1, er1] at I
  refine lv_if_ne (tgt := 10) hx hb dX2_parts_5 (by decide) (fun c5 => ?_) (fun c5 => ?_)
  · obtain ⟨g, hg, rfl⟩ : cbIs N x := by
      rcases hqa with ⟨-, q⟩ | ⟨q, -⟩
      · exact q
      · exact absurd q c5
    refine lv_aload_n hx hb dX2_parts_10 rfl (lv_at hl 0 rfl) ?_
    refine lv_iload_n hx hb dX2_parts_11 rfl (lv_at hl 1 rfl) ?_
    refine mGv_call (q := (RX2, TX2, 11)) (ci := 1) C I (metM_part l DD dd h a f r g sx hg) ⟨_, rfl⟩ rfl cwM_Mpart cdM_part ⟨Nat.le_of_ble_eq_true rfl, Nat.le_of_ble_eq_true rfl⟩ ⟨rfl, rfl⟩ rfl hl.1 (Nat.le_of_ble_eq_true rfl) dX2_parts_12 ⟨Nat.zero_le _, Nat.zero_le _⟩ rfl (fun fP rP H locs hpP I => ?_)
    obtain ⟨w1, w2, w3⟩ := hpP
    rw [w1] at I
    have sxP : stM L D N c G B f rP := sx.keep (fun _ _ => rfl) (w2 3 (by decide)) (w2 4 (by decide)) (w2 10 (by decide))
    obtain ⟨S, hS⟩ : ∃ S : Nat → Nat, S = cbPart L D (cbPos L D G B c) N g := ⟨_, rfl⟩
    rw [← hS] at w3
    have hSt : ∀ t, S t ≤ N := fun t => by rw [hS]; exact cbCnt_le _ _
    obtain ⟨Z, hZ⟩ : ∃ Z : Nat → Bool, Z = (fun t => decide (0 < S t)) := ⟨_, rfl⟩
    refine lv_iconst (v := nI 0) hx hb dX2_parts_15 (by decide) ?_
    refine lv_istore_n (lv' := [(2, .int (nI 0)), (0, .ref h), (1, .int (nI g))]) hx hb dX2_parts_16 rfl hl (by decide) rfl (fun ls hl => ?_)
    refine lv_iconst (v := nI 0) hx hb dX2_parts_17 (by decide) ?_
    refine lv_istore_n (lv' := [(3, .int (nI 0)), (2, .int (nI 0)), (0, .ref h), (1, .int (nI g))]) hx hb dX2_parts_18 rfl hl (by decide) rfl (fun ls hl => ?_)
    have loop19 : ∀ (n : Nat) (t : Nat) (H : Heap) (locs : List Loc) (ls : Array Slot), (60 < t + n) → (t ≤ 60) → iG wM DD dd AA s.heap h a f rP H locs → lv_has ls 4 [(0, .ref h), (1, .int (nI g)), (2, .int (nI (cbCnt Z t))), (3, .int (nI t))] → W p l ee (rmK 3) s m args below meth cd H locs 0 0 Q (F0 m 19 ls []) := by
      intro n
      induction n with
      | zero =>
        intros; exfalso; omega
      | succ n ih =>
        intro t H locs ls h1 h2 I hl
        have hs9 := hSt t
        refine lv_iload_n hx hb dX2_parts_19 rfl (lv_at hl 3 rfl) ?_
        refine lv_bipush (v := nI 60) hx hb dX2_parts_20 (by decide) ?_
        refine n_icge (tgt := 48) hx hb (by omega) (by omega) dX2_parts_22 (by decide) (fun c22 => ?_) (fun c22 => ?_)
        · have e9 : t = 60 := by omega
          subst e9
          refine lv_iload_n hx hb dX2_parts_48 rfl (lv_at hl 2 rfl) ?_
          exact ret _ _ _ _ _ _ _ dX2_parts_49 (rfl) I (⟨Or.inr ⟨g, hg, rfl, by rw [hZ, hS]; exact congrArg nI (cbParts60 hD1 hL4 _ g)⟩, sxP⟩)
        · refine lv_aload_n hx hb dX2_parts_25 rfl (lv_at hl 0 rfl) ?_
          refine gM_9 C I dX2_parts_26 ?_
          refine lv_iload_n hx hb dX2_parts_29 rfl (lv_at hl 3 rfl) ?_
          refine ldM_9 C I (t) (rfl) (by omega) (v := nI (S t)) (w3 t c22) dX2_parts_30 ?_
          have join41 : W p l ee (rmK 3) s m args below meth cd H locs 0 0 Q (F0 m 41 ls [.int (nI (cbCnt Z (t + 1)))]) := by
            refine lv_istore_n (lv' := [(2, .int (nI (cbCnt Z (t + 1)))), (0, .ref h), (1, .int (nI g)), (3, .int (nI t))]) hx hb dX2_parts_41 rfl hl (by decide) rfl (fun ls hl => ?_)
            refine lv_iinc (v := nI (t + 1)) (lv' := [(3, .int (nI (t + 1))), (2, .int (nI (cbCnt Z (t + 1)))), (0, .ref h), (1, .int (nI g))]) hx hb dX2_parts_42 hl (k := 3) rfl (nI_1 _) (by decide) rfl (fun ls hl => ?_)
            refine lv_goto (tgt := 19) hx hb dX2_parts_45 (by decide) ?_
            exact ih (t + 1) _ _ _ (by omega) (by omega) I (lv_sub hl [2, 3, 1, 0] rfl)
          refine n_ifle (tgt := 40) hx hb (by omega) dX2_parts_31 (by decide) (fun c31 => ?_) (fun c31 => ?_)
          · refine lv_iload_n hx hb dX2_parts_40 rfl (lv_at hl 2 rfl) ?_
            refine w_top (v := nI (cbCnt Z (t + 1))) (by rw [cbCnt_f (by rw [hZ]; exact decide_eq_false (by omega))]) ?_
            exact join41
          · refine lv_iload_n hx hb dX2_parts_34 rfl (lv_at hl 2 rfl) ?_
            refine lv_iconst (v := nI 1) hx hb dX2_parts_35 (by decide) ?_
            refine n_add hx hb dX2_parts_36 ?_
            refine lv_goto (tgt := 41) hx hb dX2_parts_37 (by decide) ?_
            refine w_top (v := nI (cbCnt Z (t + 1))) (by rw [cbCnt_t (by rw [hZ]; exact decide_eq_true c31)]) ?_
            exact join41
    exact loop19 61 0 _ _ _ (by omega) (by omega) I (lv_sub hl [2, 3, 1, 0] rfl)
  · have hq : ¬ cbIs N x := by
      rcases hqa with ⟨q, -⟩ | ⟨-, q⟩
      · rw [q] at c5; exact absurd c5 (by decide)
      · exact q
    refine lv_iconst (v := -1) hx hb dX2_parts_8 (by decide) ?_
    exact ret _ _ _ _ _ _ _ dX2_parts_9 (rfl) I (⟨Or.inl ⟨rfl, hq⟩, sx⟩)
set_option maxHeartbeats 4000000 in
set_option maxRecDepth 100000 in
theorem metM_worstOf (l : Launch) (DD : va_G) (dd : ClassId) (h : Nat) (a : Nat → Nat) (f : Nat → Int32) (r : Nat → Nat → Int32) {L D N c : Nat} {G B : Nat → Nat} (g : Nat) (sx : stM L D N c G B f r) (hg : g < N) : mG l wM yX2_worstOf cX2_worstOf 4 .int (rmK 3) DD dd h a f r [.int (nI g)] (fun v f' r' => v = nI (cbWorst L D (cbPos L D G B c) N g) ∧ stM L D N c G B f' r') := by
  refine mG_start (by decide) (Nat.le_of_ble_eq_true rfl) ?_
  intro p ee s m args below meth cd AA Q ls C I hl ret
  have hx := C.1
  have hb := C.2.1
  have hl : lv_has ls 4 [(0, .ref h), (1, .int (nI g))] := hl
  have gm := sx.1
  obtain ⟨hL1, hL4, hD1, hD3, hN1, hN81, hNe⟩ := gm.1
  have tb := sx.2.1
  have hc8 := sx.2.2.1
  have hf5 := sx.2.2.2.1
  have hGB := sx.2.2.2.2
  refine lv_aload_n hx hb dX2_worstOf_0 rfl (lv_at hl 0 rfl) ?_
  refine lv_iload_n hx hb dX2_worstOf_1 rfl (lv_at hl 1 rfl) ?_
  refine mGv_call (q := (RX2, TX2, 11)) (ci := 1) C I (metM_part l DD dd h a f r g sx hg) ⟨_, rfl⟩ rfl cwM_Mpart cdM_part ⟨Nat.le_of_ble_eq_true rfl, Nat.le_of_ble_eq_true rfl⟩ ⟨rfl, rfl⟩ rfl hl.1 (Nat.le_of_ble_eq_true rfl) dX2_worstOf_2 ⟨Nat.zero_le _, Nat.zero_le _⟩ rfl (fun fP rP H locs hpP I => ?_)
  obtain ⟨w1, w2, w3⟩ := hpP
  rw [w1] at I
  have sxP : stM L D N c G B f rP := sx.keep (fun _ _ => rfl) (w2 3 (by decide)) (w2 4 (by decide)) (w2 10 (by decide))
  obtain ⟨S, hS⟩ : ∃ S : Nat → Nat, S = cbPart L D (cbPos L D G B c) N g := ⟨_, rfl⟩
  rw [← hS] at w3
  have hSt : ∀ t, S t ≤ N := fun t => by rw [hS]; exact cbCnt_le _ _
  refine lv_iconst (v := nI 0) hx hb dX2_worstOf_5 (by decide) ?_
  refine lv_istore_n (lv' := [(2, .int (nI 0)), (0, .ref h), (1, .int (nI g))]) hx hb dX2_worstOf_6 rfl hl (by decide) rfl (fun ls hl => ?_)
  refine lv_iconst (v := nI 0) hx hb dX2_worstOf_7 (by decide) ?_
  refine lv_istore_n (lv' := [(3, .int (nI 0)), (2, .int (nI 0)), (0, .ref h), (1, .int (nI g))]) hx hb dX2_worstOf_8 rfl hl (by decide) rfl (fun ls hl => ?_)
  have loop9 : ∀ (n : Nat) (t : Nat) (H : Heap) (locs : List Loc) (ls : Array Slot), (60 < t + n) → (t ≤ 60) → iG wM DD dd AA s.heap h a f rP H locs → lv_has ls 4 [(0, .ref h), (1, .int (nI g)), (2, .int (nI (cbMax S t))), (3, .int (nI t))] → W p l ee (rmK 3) s m args below meth cd H locs 0 0 Q (F0 m 9 ls []) := by
    intro n
    induction n with
    | zero =>
      intros; exfalso; omega
    | succ n ih =>
      intro t H locs ls h1 h2 I hl
      have hs9 := hSt t
      have hm9 : cbMax S t ≤ N := cbMax_bound (fun k _ => hSt k)
      refine lv_iload_n hx hb dX2_worstOf_9 rfl (lv_at hl 3 rfl) ?_
      refine lv_bipush (v := nI 60) hx hb dX2_worstOf_10 (by decide) ?_
      refine n_icge (tgt := 42) hx hb (by omega) (by omega) dX2_worstOf_12 (by decide) (fun c12 => ?_) (fun c12 => ?_)
      · have e9 : t = 60 := by omega
        subst e9
        refine lv_iload_n hx hb dX2_worstOf_42 rfl (lv_at hl 2 rfl) ?_
        exact ret _ _ _ _ _ _ _ dX2_worstOf_43 (rfl) I (⟨by rw [hS]; exact congrArg nI (cbWorst60 hD1 hL4 _ g), sxP⟩)
      · refine lv_aload_n hx hb dX2_worstOf_15 rfl (lv_at hl 0 rfl) ?_
        refine gM_9 C I dX2_worstOf_16 ?_
        refine lv_iload_n hx hb dX2_worstOf_19 rfl (lv_at hl 3 rfl) ?_
        refine ldM_9 C I (t) (rfl) (by omega) (v := nI (S t)) (w3 t c12) dX2_worstOf_20 ?_
        refine lv_iload_n hx hb dX2_worstOf_21 rfl (lv_at hl 2 rfl) ?_
        have join35 : W p l ee (rmK 3) s m args below meth cd H locs 0 0 Q (F0 m 35 ls [.int (nI (cbMax S (t + 1)))]) := by
          refine lv_istore_n (lv' := [(2, .int (nI (cbMax S (t + 1)))), (0, .ref h), (1, .int (nI g)), (3, .int (nI t))]) hx hb dX2_worstOf_35 rfl hl (by decide) rfl (fun ls hl => ?_)
          refine lv_iinc (v := nI (t + 1)) (lv' := [(3, .int (nI (t + 1))), (2, .int (nI (cbMax S (t + 1)))), (0, .ref h), (1, .int (nI g))]) hx hb dX2_worstOf_36 hl (k := 3) rfl (nI_1 _) (by decide) rfl (fun ls hl => ?_)
          refine lv_goto (tgt := 9) hx hb dX2_worstOf_39 (by decide) ?_
          exact ih (t + 1) _ _ _ (by omega) (by omega) I (lv_sub hl [2, 3, 1, 0] rfl)
        refine n_icle (tgt := 34) hx hb (by omega) (by omega) dX2_worstOf_22 (by decide) (fun c22 => ?_) (fun c22 => ?_)
        · refine lv_iload_n hx hb dX2_worstOf_34 rfl (lv_at hl 2 rfl) ?_
          refine w_top (v := nI (cbMax S (t + 1))) (by rw [cbMax_n c22]) ?_
          exact join35
        · refine lv_aload_n hx hb dX2_worstOf_25 rfl (lv_at hl 0 rfl) ?_
          refine gM_9 C I dX2_worstOf_26 ?_
          refine lv_iload_n hx hb dX2_worstOf_29 rfl (lv_at hl 3 rfl) ?_
          refine ldM_9 C I (t) (rfl) (by omega) (v := nI (S t)) (w3 t c12) dX2_worstOf_30 ?_
          refine lv_goto (tgt := 35) hx hb dX2_worstOf_31 (by decide) ?_
          refine w_top (v := nI (cbMax S (t + 1))) (by rw [cbMax_p c22]) ?_
          exact join35
  exact loop9 61 0 _ _ _ (by omega) (by omega) I (lv_sub hl [2, 3, 1, 0] rfl)
set_option maxHeartbeats 4000000 in
set_option maxRecDepth 100000 in
theorem metM_weightOf (l : Launch) (DD : va_G) (dd : ClassId) (h : Nat) (a : Nat → Nat) (f : Nat → Int32) (r : Nat → Nat → Int32) {L D N c : Nat} {G B : Nat → Nat} (g : Nat) (sx : stM L D N c G B f r) (hg : g < N) : mG l wM yX2_weightOf cX2_weightOf 4 .int (rmK 3) DD dd h a f r [.int (nI g)] (fun v f' r' => v = nI (cbWeight L D (cbPos L D G B c) N g) ∧ stM L D N c G B f' r') := by
  refine mG_start (by decide) (Nat.le_of_ble_eq_true rfl) ?_
  intro p ee s m args below meth cd AA Q ls C I hl ret
  have hx := C.1
  have hb := C.2.1
  have hl : lv_has ls 4 [(0, .ref h), (1, .int (nI g))] := hl
  have gm := sx.1
  obtain ⟨hL1, hL4, hD1, hD3, hN1, hN81, hNe⟩ := gm.1
  have tb := sx.2.1
  have hc8 := sx.2.2.1
  have hf5 := sx.2.2.2.1
  have hGB := sx.2.2.2.2
  refine lv_aload_n hx hb dX2_weightOf_0 rfl (lv_at hl 0 rfl) ?_
  refine lv_iload_n hx hb dX2_weightOf_1 rfl (lv_at hl 1 rfl) ?_
  refine mGv_call (q := (RX2, TX2, 11)) (ci := 1) C I (metM_part l DD dd h a f r g sx hg) ⟨_, rfl⟩ rfl cwM_Mpart cdM_part ⟨Nat.le_of_ble_eq_true rfl, Nat.le_of_ble_eq_true rfl⟩ ⟨rfl, rfl⟩ rfl hl.1 (Nat.le_of_ble_eq_true rfl) dX2_weightOf_2 ⟨Nat.zero_le _, Nat.zero_le _⟩ rfl (fun fP rP H locs hpP I => ?_)
  obtain ⟨w1, w2, w3⟩ := hpP
  rw [w1] at I
  have sxP : stM L D N c G B f rP := sx.keep (fun _ _ => rfl) (w2 3 (by decide)) (w2 4 (by decide)) (w2 10 (by decide))
  obtain ⟨S, hS⟩ : ∃ S : Nat → Nat, S = cbPart L D (cbPos L D G B c) N g := ⟨_, rfl⟩
  rw [← hS] at w3
  have hSt : ∀ t, S t ≤ N := fun t => by rw [hS]; exact cbCnt_le _ _
  obtain ⟨T, hT⟩ : ∃ T : Nat → Nat, T = (fun t => S t * S t) := ⟨_, rfl⟩
  refine lv_iconst (v := nI 0) hx hb dX2_weightOf_5 (by decide) ?_
  refine lv_istore_n (lv' := [(2, .int (nI 0)), (0, .ref h), (1, .int (nI g))]) hx hb dX2_weightOf_6 rfl hl (by decide) rfl (fun ls hl => ?_)
  refine lv_iconst (v := nI 0) hx hb dX2_weightOf_7 (by decide) ?_
  refine lv_istore_n (lv' := [(3, .int (nI 0)), (2, .int (nI 0)), (0, .ref h), (1, .int (nI g))]) hx hb dX2_weightOf_8 rfl hl (by decide) rfl (fun ls hl => ?_)
  have loop9 : ∀ (n : Nat) (t : Nat) (H : Heap) (locs : List Loc) (ls : Array Slot), (60 < t + n) → (t ≤ 60) → iG wM DD dd AA s.heap h a f rP H locs → lv_has ls 4 [(0, .ref h), (1, .int (nI g)), (2, .int (nI (cbSum T t))), (3, .int (nI t))] → W p l ee (rmK 3) s m args below meth cd H locs 0 0 Q (F0 m 9 ls []) := by
    intro n
    induction n with
    | zero =>
      intros; exfalso; omega
    | succ n ih =>
      intro t H locs ls h1 h2 I hl
      refine lv_iload_n hx hb dX2_weightOf_9 rfl (lv_at hl 3 rfl) ?_
      refine lv_bipush (v := nI 60) hx hb dX2_weightOf_10 (by decide) ?_
      refine n_icge (tgt := 37) hx hb (by omega) (by omega) dX2_weightOf_12 (by decide) (fun c12 => ?_) (fun c12 => ?_)
      · have e9 : t = 60 := by omega
        subst e9
        refine lv_iload_n hx hb dX2_weightOf_37 rfl (lv_at hl 2 rfl) ?_
        exact ret _ _ _ _ _ _ _ dX2_weightOf_38 (rfl) I (⟨by rw [hT, hS]; exact congrArg nI (cbWeight60 hD1 hL4 _ g), sxP⟩)
      · refine lv_iload_n hx hb dX2_weightOf_15 rfl (lv_at hl 2 rfl) ?_
        refine lv_aload_n hx hb dX2_weightOf_16 rfl (lv_at hl 0 rfl) ?_
        refine gM_9 C I dX2_weightOf_17 ?_
        refine lv_iload_n hx hb dX2_weightOf_20 rfl (lv_at hl 3 rfl) ?_
        refine ldM_9 C I (t) (rfl) (by omega) (v := nI (S t)) (w3 t c12) dX2_weightOf_21 ?_
        refine lv_aload_n hx hb dX2_weightOf_22 rfl (lv_at hl 0 rfl) ?_
        refine gM_9 C I dX2_weightOf_23 ?_
        refine lv_iload_n hx hb dX2_weightOf_26 rfl (lv_at hl 3 rfl) ?_
        refine ldM_9 C I (t) (rfl) (by omega) (v := nI (S t)) (w3 t c12) dX2_weightOf_27 ?_
        refine n_mul hx hb dX2_weightOf_28 ?_
        refine n_add hx hb dX2_weightOf_29 ?_
        refine w_top (v := nI (cbSum T (t + 1))) (by rw [hT]; rfl) ?_
        refine lv_istore_n (lv' := [(2, .int (nI (cbSum T (t + 1)))), (0, .ref h), (1, .int (nI g)), (3, .int (nI t))]) hx hb dX2_weightOf_30 rfl hl (by decide) rfl (fun ls hl => ?_)
        refine lv_iinc (v := nI (t + 1)) (lv' := [(3, .int (nI (t + 1))), (2, .int (nI (cbSum T (t + 1)))), (0, .ref h), (1, .int (nI g))]) hx hb dX2_weightOf_31 hl (k := 3) rfl (nI_1 _) (by decide) rfl (fun ls hl => ?_)
        refine lv_goto (tgt := 9) hx hb dX2_weightOf_34 (by decide) ?_
        exact ih (t + 1) _ _ _ (by omega) (by omega) I (lv_sub hl [2, 3, 1, 0] rfl)
  exact loop9 61 0 _ _ _ (by omega) (by omega) I (lv_sub hl [2, 3, 1, 0] rfl)
set_option maxHeartbeats 4000000 in
set_option maxRecDepth 100000 in
theorem metM_worst (l : Launch) (DD : va_G) (dd : ClassId) (h : Nat) (a : Nat → Nat) (f : Nat → Int32) (r : Nat → Nat → Int32) {L D N c : Nat} {G B : Nat → Nat} (x : Int32) (sx : stM L D N c G B f r) : mG l wM yX2_worst cX2_worst 2 .int (rmK 4) DD dd h a f r [.int (x)] (fun v f' r' => (v = -1 ∧ ¬ cbIs N x ∨ ∃ g, g < N ∧ x = nI g ∧ v = nI (cbWorst L D (cbPos L D G B c) N g)) ∧ stM L D N c G B f' r') := by
  refine mG_start (by decide) (Nat.le_of_ble_eq_true rfl) ?_
  intro p ee s m args below meth cd AA Q ls C I hl ret
  have hx := C.1
  have hb := C.2.1
  have hl : lv_has ls 2 [(0, .ref h), (1, .int (x))] := hl
  have gm := sx.1
  obtain ⟨hL1, hL4, hD1, hD3, hN1, hN81, hNe⟩ := gm.1
  have tb := sx.2.1
  have hc8 := sx.2.2.1
  have hf5 := sx.2.2.2.1
  have hGB := sx.2.2.2.2
  refine lv_aload_n hx hb dX2_worst_0 rfl (lv_at hl 0 rfl) ?_
  refine lv_iload_n hx hb dX2_worst_1 rfl (lv_at hl 1 rfl) ?_
  refine mG_call (q := (RX2, TX2, 11)) (ci := 1) C I (metM_isCode l DD dd h a f r x gm) ⟨_, rfl⟩ rfl cwM_MisCode cdM_isCode ⟨Nat.le_of_ble_eq_true rfl, Nat.le_of_ble_eq_true rfl⟩ ⟨rfl, rfl⟩ rfl hl.1 (Nat.le_of_ble_eq_true rfl) dX2_worst_2 ⟨Nat.zero_le _, Nat.zero_le _⟩ rfl (fun v1 f1 r1 H locs hp1 I => ?_)
  obtain ⟨hqa, ef1, er1⟩ := hp1
  rw [ef1, er1] at I
  refine lv_if_eq (tgt := 16) hx hb dX2_worst_5 (by decide) (fun c5 => ?_) (fun c5 => ?_)
  · have hq : ¬ cbIs N x := by
      rcases hqa with ⟨q, -⟩ | ⟨-, q⟩
      · rw [q] at c5; exact absurd c5 (by decide)
      · exact q
    refine lv_iconst (v := -1) hx hb dX2_worst_16 (by decide) ?_
    exact ret _ _ _ _ _ _ _ dX2_worst_17 (rfl) I (by first | exact ⟨Or.inl ⟨rfl, hq⟩, sx⟩ | exact ⟨Or.inr ⟨g, hg, rfl, rfl⟩, w2⟩)
  · obtain ⟨g, hg, rfl⟩ : cbIs N x := by
      rcases hqa with ⟨-, q⟩ | ⟨q, -⟩
      · exact q
      · exact absurd q c5
    refine lv_aload_n hx hb dX2_worst_8 rfl (lv_at hl 0 rfl) ?_
    refine lv_iload_n hx hb dX2_worst_9 rfl (lv_at hl 1 rfl) ?_
    refine mG_call (q := (RX2, TX2, 11)) (ci := 1) C I (metM_worstOf l DD dd h a f r g sx hg) ⟨_, rfl⟩ rfl cwM_MworstOf cdM_worstOf ⟨Nat.le_of_ble_eq_true rfl, Nat.le_of_ble_eq_true rfl⟩ ⟨rfl, rfl⟩ rfl hl.1 (Nat.le_of_ble_eq_true rfl) dX2_worst_10 ⟨Nat.zero_le _, Nat.zero_le _⟩ rfl (fun vZ fZ rZ H locs hpZ I => ?_)
    obtain ⟨w1, w2⟩ := hpZ
    subst w1
    refine lv_goto (tgt := 17) hx hb dX2_worst_13 (by decide) ?_
    exact ret _ _ _ _ _ _ _ dX2_worst_17 (rfl) I (by first | exact ⟨Or.inl ⟨rfl, hq⟩, sx⟩ | exact ⟨Or.inr ⟨g, hg, rfl, rfl⟩, w2⟩)
set_option maxHeartbeats 4000000 in
set_option maxRecDepth 100000 in
theorem metM_weight (l : Launch) (DD : va_G) (dd : ClassId) (h : Nat) (a : Nat → Nat) (f : Nat → Int32) (r : Nat → Nat → Int32) {L D N c : Nat} {G B : Nat → Nat} (x : Int32) (sx : stM L D N c G B f r) : mG l wM yX2_weight cX2_weight 2 .int (rmK 4) DD dd h a f r [.int (x)] (fun v f' r' => (v = -1 ∧ ¬ cbIs N x ∨ ∃ g, g < N ∧ x = nI g ∧ v = nI (cbWeight L D (cbPos L D G B c) N g)) ∧ stM L D N c G B f' r') := by
  refine mG_start (by decide) (Nat.le_of_ble_eq_true rfl) ?_
  intro p ee s m args below meth cd AA Q ls C I hl ret
  have hx := C.1
  have hb := C.2.1
  have hl : lv_has ls 2 [(0, .ref h), (1, .int (x))] := hl
  have gm := sx.1
  obtain ⟨hL1, hL4, hD1, hD3, hN1, hN81, hNe⟩ := gm.1
  have tb := sx.2.1
  have hc8 := sx.2.2.1
  have hf5 := sx.2.2.2.1
  have hGB := sx.2.2.2.2
  refine lv_aload_n hx hb dX2_weight_0 rfl (lv_at hl 0 rfl) ?_
  refine lv_iload_n hx hb dX2_weight_1 rfl (lv_at hl 1 rfl) ?_
  refine mG_call (q := (RX2, TX2, 11)) (ci := 1) C I (metM_isCode l DD dd h a f r x gm) ⟨_, rfl⟩ rfl cwM_MisCode cdM_isCode ⟨Nat.le_of_ble_eq_true rfl, Nat.le_of_ble_eq_true rfl⟩ ⟨rfl, rfl⟩ rfl hl.1 (Nat.le_of_ble_eq_true rfl) dX2_weight_2 ⟨Nat.zero_le _, Nat.zero_le _⟩ rfl (fun v1 f1 r1 H locs hp1 I => ?_)
  obtain ⟨hqa, ef1, er1⟩ := hp1
  rw [ef1, er1] at I
  refine lv_if_eq (tgt := 16) hx hb dX2_weight_5 (by decide) (fun c5 => ?_) (fun c5 => ?_)
  · have hq : ¬ cbIs N x := by
      rcases hqa with ⟨q, -⟩ | ⟨-, q⟩
      · rw [q] at c5; exact absurd c5 (by decide)
      · exact q
    refine lv_iconst (v := -1) hx hb dX2_weight_16 (by decide) ?_
    exact ret _ _ _ _ _ _ _ dX2_weight_17 (rfl) I (by first | exact ⟨Or.inl ⟨rfl, hq⟩, sx⟩ | exact ⟨Or.inr ⟨g, hg, rfl, rfl⟩, w2⟩)
  · obtain ⟨g, hg, rfl⟩ : cbIs N x := by
      rcases hqa with ⟨-, q⟩ | ⟨q, -⟩
      · exact q
      · exact absurd q c5
    refine lv_aload_n hx hb dX2_weight_8 rfl (lv_at hl 0 rfl) ?_
    refine lv_iload_n hx hb dX2_weight_9 rfl (lv_at hl 1 rfl) ?_
    refine mG_call (q := (RX2, TX2, 11)) (ci := 1) C I (metM_weightOf l DD dd h a f r g sx hg) ⟨_, rfl⟩ rfl cwM_MweightOf cdM_weightOf ⟨Nat.le_of_ble_eq_true rfl, Nat.le_of_ble_eq_true rfl⟩ ⟨rfl, rfl⟩ rfl hl.1 (Nat.le_of_ble_eq_true rfl) dX2_weight_10 ⟨Nat.zero_le _, Nat.zero_le _⟩ rfl (fun vZ fZ rZ H locs hpZ I => ?_)
    obtain ⟨w1, w2⟩ := hpZ
    subst w1
    refine lv_goto (tgt := 17) hx hb dX2_weight_13 (by decide) ?_
    exact ret _ _ _ _ _ _ _ dX2_weight_17 (rfl) I (by first | exact ⟨Or.inl ⟨rfl, hq⟩, sx⟩ | exact ⟨Or.inr ⟨g, hg, rfl, rfl⟩, w2⟩)
set_option maxHeartbeats 4000000 in
set_option maxRecDepth 100000 in
theorem metM_best (l : Launch) (DD : va_G) (dd : ClassId) (h : Nat) (a : Nat → Nat) (f : Nat → Int32) (r : Nat → Nat → Int32) {L D N c : Nat} {G B : Nat → Nat} (b : Nat) (sx : stM L D N c G B f r) (hb1 : b ≤ 1) : mG l wM yX2_best cX2_best 6 .int (rmK 4) DD dd h a f r [.int (nI b)] (fun v f' r' => (v = -3 ∧ cbCnt (cbPos L D G B c) N = 0 ∨ v = nI (cbArg (cbRank L D (cbPos L D G B c) N (1 - b)) N) ∧ 0 < cbCnt (cbPos L D G B c) N) ∧ stM L D N c G B f' r') := by
  refine mG_start (by decide) (Nat.le_of_ble_eq_true rfl) ?_
  intro p ee s m args below meth cd AA Q ls C I hl ret
  have hx := C.1
  have hb := C.2.1
  have hl : lv_has ls 6 [(0, .ref h), (1, .int (nI b))] := hl
  have gm := sx.1
  obtain ⟨hL1, hL4, hD1, hD3, hN1, hN81, hNe⟩ := gm.1
  have tb := sx.2.1
  have hc8 := sx.2.2.1
  have hf5 := sx.2.2.2.1
  have hGB := sx.2.2.2.2
  obtain ⟨R, hR⟩ : ∃ R : Nat → Nat, R = cbRank L D (cbPos L D G B c) N (1 - b) := ⟨_, rfl⟩
  refine lv_aload_n hx hb dX2_best_0 rfl (lv_at hl 0 rfl) ?_
  refine lv_iconst (v := -1) hx hb dX2_best_1 (by decide) ?_
  refine mG_call (q := (RX2, TX2, 11)) (ci := 1) C I (metM_countPossible1 l DD dd h a f r sx) ⟨_, rfl⟩ rfl cwM_McountPossible cdM_countPossible ⟨Nat.le_of_ble_eq_true rfl, Nat.le_of_ble_eq_true rfl⟩ ⟨rfl, rfl⟩ rfl hl.1 (Nat.le_of_ble_eq_true rfl) dX2_best_2 ⟨Nat.zero_le _, Nat.zero_le _⟩ rfl (fun v1 f1 r1 H locs hp1 I => ?_)
  obtain ⟨ev1, ef1, er1⟩ := hp1
  subst ev1
  rw [ef1, er1] at I
  refine n_ifne (tgt := 11) hx hb (Nat.lt_of_le_of_lt (cbCnt_le _ _) (by omega)) dX2_best_5 (by decide) (fun c5 => ?_) (fun c5 => ?_)
  · refine lv_iconst (v := -1) hx hb dX2_best_11 (by decide) ?_
    refine lv_istore_n (lv' := [(2, .int (-1)), (0, .ref h), (1, .int (nI b))]) hx hb dX2_best_12 rfl hl (by decide) rfl (fun ls hl => ?_)
    refine lv_iconst (v := nI 0) hx hb dX2_best_13 (by decide) ?_
    refine lv_istore_n (lv' := [(3, .int (nI 0)), (2, .int (-1)), (0, .ref h), (1, .int (nI b))]) hx hb dX2_best_14 rfl hl (by decide) rfl (fun ls hl => ?_)
    refine lv_iconst (v := nI 0) hx hb dX2_best_15 (by decide) ?_
    refine lv_istore (lv' := [(4, .int (nI 0)), (3, .int (nI 0)), (2, .int (-1)), (0, .ref h), (1, .int (nI b))]) hx hb dX2_best_16 hl (by decide) rfl (fun ls hl => ?_)
    have loop18 : ∀ (n : Nat) (g : Nat) (bst : Int32) (lst : Nat) (fL : Nat → Int32) (rL : Nat → Nat → Int32) (H : Heap) (locs : List Loc) (ls : Array Slot), (N < g + n) → (g ≤ N) → ((g = 0 ∧ bst = -1 ∧ lst = 0) ∨ (0 < g ∧ bst = nI (cbArg R g) ∧ lst = R (cbArg R g))) → (stM L D N c G B fL rL) → iG wM DD dd AA s.heap h a fL rL H locs → lv_has ls 6 [(0, .ref h), (1, .int (nI b)), (2, .int (bst)), (3, .int (nI lst)), (4, .int (nI g))] → W p l ee (rmK 4) s m args below meth cd H locs 0 0 Q (F0 m 18 ls []) := by
      intro n
      induction n with
      | zero =>
        intros; exfalso; omega
      | succ n ih =>
        intro g bst lst fL rL H locs ls h1 h2 h3 sxL I hl
        have hRg : R g < 100000 := by rw [hR]; exact cbRank_lt hD1 hL4 hN81 _ _ _
        have hlst : lst ≤ 100000 := by
          rcases h3 with ⟨-, -, q⟩ | ⟨-, -, q⟩
          · omega
          · rw [q, hR]; exact Nat.le_of_lt (cbRank_lt hD1 hL4 hN81 _ _ _)
        have hag : 0 < g → cbArg R g < g := fun q => cbArg_lt R q
        refine lv_iload hx hb dX2_best_18 (lv_at hl 4 rfl) ?_
        refine lv_aload_n hx hb dX2_best_20 rfl (lv_at hl 0 rfl) ?_
        refine gM_2 C I (v := nI (N)) (sxL.1.2.2.2) dX2_best_21 ?_
        refine n_icge (tgt := 88) hx hb (by omega) (by omega) dX2_best_24 (by decide) (fun c24 => ?_) (fun c24 => ?_)
        · refine lv_iload_n hx hb dX2_best_88 rfl (lv_at hl 2 rfl) ?_
          exact ret _ _ _ _ _ _ _ dX2_best_89 (rfl) I (by
            rcases h3 with ⟨q, -, -⟩ | ⟨-, q, -⟩
            · omega
            · have e : g = N := by omega
              refine ⟨Or.inr ⟨?_, by omega⟩, sxL⟩
              rw [q, e, hR])
        · refine lv_iconst (v := nI 2) hx hb dX2_best_27 (by decide) ?_
          refine lv_iload_n hx hb dX2_best_28 rfl (lv_at hl 1 rfl) ?_
          refine n_ifeq (tgt := 41) hx hb (by omega) dX2_best_29 (by decide) (fun c29 => ?_) (fun c29 => ?_)
          · have hVal : cbVal L D (cbPos L D G B c) N (1 - b) g = cbWeight L D (cbPos L D G B c) N g := if_neg (by omega)
            refine lv_aload_n hx hb dX2_best_41 rfl (lv_at hl 0 rfl) ?_
            refine lv_iload hx hb dX2_best_42 (lv_at hl 4 rfl) ?_
            refine mG_call (q := (RX2, TX2, 11)) (ci := 1) C I (metM_weightOf l DD dd h a fL rL g sxL c24) ⟨_, rfl⟩ rfl cwM_MweightOf cdM_weightOf ⟨Nat.le_of_ble_eq_true rfl, Nat.le_of_ble_eq_true rfl⟩ ⟨rfl, rfl⟩ rfl hl.1 (Nat.le_of_ble_eq_true rfl) dX2_best_44 ⟨Nat.zero_le _, Nat.zero_le _⟩ rfl (fun vV fV rV H locs hpV I => ?_)
            obtain ⟨w1, sxV⟩ := hpV
            subst w1
            refine n_mul hx hb dX2_best_47 ?_
            refine lv_aload_n hx hb dX2_best_48 rfl (lv_at hl 0 rfl) ?_
            refine lv_iload hx hb dX2_best_49 (lv_at hl 4 rfl) ?_
            refine lv_iconst (v := -1) hx hb dX2_best_51 (by decide) ?_
            refine mG_call (q := (RX2, TX2, 11)) (ci := 1) C I (metM_agrees1 l DD dd h a fV rV g sxV c24) ⟨_, rfl⟩ rfl cwM_Magrees cdM_agrees ⟨Nat.le_of_ble_eq_true rfl, Nat.le_of_ble_eq_true rfl⟩ ⟨rfl, rfl⟩ rfl hl.1 (Nat.le_of_ble_eq_true rfl) dX2_best_52 ⟨Nat.zero_le _, Nat.zero_le _⟩ rfl (fun v2 f2 r2 H locs hp2 I => ?_)
            obtain ⟨ev2, ef2, er2⟩ := hp2
            subst ev2
            rw [ef2, er2] at I
            have join63 : W p l ee (rmK 4) s m args below meth cd H locs 0 0 Q (F0 m 63 ls [.int (nI (if (cbPos L D G B c) g then 0 else 1)), .int (nI (2 * (cbWeight L D (cbPos L D G B c) N g)))]) := by
              refine n_add hx hb dX2_best_63 ?_
              refine w_top (v := nI (R g)) (by rw [hR]; unfold cbRank; rw [hVal]) ?_
              refine lv_istore (lv' := [(5, .int (nI (R g))), (0, .ref h), (1, .int (nI b)), (2, .int (bst)), (3, .int (nI lst)), (4, .int (nI g))]) hx hb dX2_best_64 hl (by decide) rfl (fun ls hl => ?_)
              refine lv_iload_n hx hb dX2_best_66 rfl (lv_at hl 3 rfl) ?_
              refine lv_if_lt (tgt := 76) hx hb dX2_best_67 (by decide) (fun c67 => ?_) (fun c67 => ?_)
              · have g0 : g = 0 := by
                  rcases h3 with ⟨q, -, -⟩ | ⟨q1, q2, -⟩
                  · exact q
                  · rw [q2] at c67; have := hag q1; exact absurd c67 (nI_pos (by omega))
                have hnew : nI g = nI (cbArg R (g + 1)) ∧ R g = R (cbArg R (g + 1)) := by
                  rw [g0, cbArg_1]; exact ⟨rfl, rfl⟩
                refine lv_iload hx hb dX2_best_76 (lv_at hl 5 rfl) ?_
                refine lv_istore_n (lv' := [(2, .int (nI g)), (5, .int (nI (R g))), (0, .ref h), (1, .int (nI b)), (3, .int (nI lst)), (4, .int (nI g))]) hx hb dX2_best_78 rfl hl (by decide) rfl (fun ls hl => ?_)
                refine lv_iload hx hb dX2_best_79 (lv_at hl 1 rfl) ?_
                refine lv_istore_n (lv' := [(3, .int (nI (R g))), (2, .int (nI g)), (5, .int (nI (R g))), (0, .ref h), (1, .int (nI b)), (4, .int (nI g))]) hx hb dX2_best_81 rfl hl (by decide) rfl (fun ls hl => ?_)
                refine lv_iinc (v := nI (g + 1)) (lv' := [(4, .int (nI (g + 1))), (3, .int (nI (R g))), (2, .int (nI g)), (5, .int (nI (R g))), (0, .ref h), (1, .int (nI b))]) hx hb dX2_best_82 hl (k := 5) rfl (nI_1 _) (by decide) rfl (fun ls hl => ?_)
                refine lv_goto (tgt := 18) hx hb dX2_best_85 (by decide) ?_
                exact ih (g + 1) _ _ _ _ _ _ _ (by omega) (by omega) (Or.inr ⟨by omega, hnew⟩) sxV I (lv_sub hl [4, 5, 2, 1, 0] rfl)
              · have g0 : 0 < g ∧ bst = nI (cbArg R g) ∧ lst = R (cbArg R g) := by
                  rcases h3 with ⟨-, q, -⟩ | q
                  · rw [q] at c67; exact absurd (by decide) c67
                  · exact q
                refine lv_iload hx hb dX2_best_70 (lv_at hl 0 rfl) ?_
                refine lv_iload_n hx hb dX2_best_72 rfl (lv_at hl 4 rfl) ?_
                refine n_icge (tgt := 82) hx hb (by omega) (by omega) dX2_best_73 (by decide) (fun c73 => ?_) (fun c73 => ?_)
                · have hnew : bst = nI (cbArg R (g + 1)) ∧ lst = R (cbArg R (g + 1)) := by
                    rw [cbArg_n (by rw [← g0.2.2]; exact c73)]; exact g0.2
                  refine lv_iinc (v := nI (g + 1)) (lv' := [(4, .int (nI (g + 1))), (5, .int (nI (R g))), (0, .ref h), (1, .int (nI b)), (2, .int (bst)), (3, .int (nI lst))]) hx hb dX2_best_82 hl (k := 5) rfl (nI_1 _) (by decide) rfl (fun ls hl => ?_)
                  refine lv_goto (tgt := 18) hx hb dX2_best_85 (by decide) ?_
                  exact ih (g + 1) _ _ _ _ _ _ _ (by omega) (by omega) (Or.inr ⟨by omega, hnew⟩) sxV I (lv_sub hl [2, 3, 4, 5, 0] rfl)
                · have hnew : nI g = nI (cbArg R (g + 1)) ∧ R g = R (cbArg R (g + 1)) := by
                    rw [cbArg_p (by rw [← g0.2.2]; exact c73)]; exact ⟨rfl, rfl⟩
                  refine lv_iload hx hb dX2_best_76 (lv_at hl 5 rfl) ?_
                  refine lv_istore_n (lv' := [(2, .int (nI g)), (5, .int (nI (R g))), (0, .ref h), (1, .int (nI b)), (3, .int (nI lst)), (4, .int (nI g))]) hx hb dX2_best_78 rfl hl (by decide) rfl (fun ls hl => ?_)
                  refine lv_iload hx hb dX2_best_79 (lv_at hl 1 rfl) ?_
                  refine lv_istore_n (lv' := [(3, .int (nI (R g))), (2, .int (nI g)), (5, .int (nI (R g))), (0, .ref h), (1, .int (nI b)), (4, .int (nI g))]) hx hb dX2_best_81 rfl hl (by decide) rfl (fun ls hl => ?_)
                  refine lv_iinc (v := nI (g + 1)) (lv' := [(4, .int (nI (g + 1))), (3, .int (nI (R g))), (2, .int (nI g)), (5, .int (nI (R g))), (0, .ref h), (1, .int (nI b))]) hx hb dX2_best_82 hl (k := 5) rfl (nI_1 _) (by decide) rfl (fun ls hl => ?_)
                  refine lv_goto (tgt := 18) hx hb dX2_best_85 (by decide) ?_
                  exact ih (g + 1) _ _ _ _ _ _ _ (by omega) (by omega) (Or.inr ⟨by omega, hnew⟩) sxV I (lv_sub hl [4, 5, 2, 1, 0] rfl)
            refine n_ifeq (tgt := 62) hx hb (Nat.lt_of_le_of_lt (Bool.toNat_le _) (by decide)) dX2_best_55 (by decide) (fun c55 => ?_) (fun c55 => ?_)
            · refine lv_iconst (v := nI 1) hx hb dX2_best_62 (by decide) ?_
              refine w_top (v := nI (if (cbPos L D G B c) g then 0 else 1)) (by rw [if_neg (by cases hc : cbPos L D G B c g <;> simp_all)]) ?_
              exact join63
            · refine lv_iconst (v := nI 0) hx hb dX2_best_58 (by decide) ?_
              refine lv_goto (tgt := 63) hx hb dX2_best_59 (by decide) ?_
              refine w_top (v := nI (if (cbPos L D G B c) g then 0 else 1)) (by rw [if_pos (by cases hc : cbPos L D G B c g <;> simp_all)]) ?_
              exact join63
          · have hVal : cbVal L D (cbPos L D G B c) N (1 - b) g = cbWorst L D (cbPos L D G B c) N g := if_pos (by omega)
            refine lv_aload_n hx hb dX2_best_32 rfl (lv_at hl 0 rfl) ?_
            refine lv_iload hx hb dX2_best_33 (lv_at hl 4 rfl) ?_
            refine mG_call (q := (RX2, TX2, 11)) (ci := 1) C I (metM_worstOf l DD dd h a fL rL g sxL c24) ⟨_, rfl⟩ rfl cwM_MworstOf cdM_worstOf ⟨Nat.le_of_ble_eq_true rfl, Nat.le_of_ble_eq_true rfl⟩ ⟨rfl, rfl⟩ rfl hl.1 (Nat.le_of_ble_eq_true rfl) dX2_best_35 ⟨Nat.zero_le _, Nat.zero_le _⟩ rfl (fun vV fV rV H locs hpV I => ?_)
            obtain ⟨w1, sxV⟩ := hpV
            subst w1
            refine lv_goto (tgt := 47) hx hb dX2_best_38 (by decide) ?_
            refine n_mul hx hb dX2_best_47 ?_
            refine lv_aload_n hx hb dX2_best_48 rfl (lv_at hl 0 rfl) ?_
            refine lv_iload hx hb dX2_best_49 (lv_at hl 4 rfl) ?_
            refine lv_iconst (v := -1) hx hb dX2_best_51 (by decide) ?_
            refine mG_call (q := (RX2, TX2, 11)) (ci := 1) C I (metM_agrees1 l DD dd h a fV rV g sxV c24) ⟨_, rfl⟩ rfl cwM_Magrees cdM_agrees ⟨Nat.le_of_ble_eq_true rfl, Nat.le_of_ble_eq_true rfl⟩ ⟨rfl, rfl⟩ rfl hl.1 (Nat.le_of_ble_eq_true rfl) dX2_best_52 ⟨Nat.zero_le _, Nat.zero_le _⟩ rfl (fun v3 f3 r3 H locs hp3 I => ?_)
            obtain ⟨ev3, ef3, er3⟩ := hp3
            subst ev3
            rw [ef3, er3] at I
            have join63 : W p l ee (rmK 4) s m args below meth cd H locs 0 0 Q (F0 m 63 ls [.int (nI (if (cbPos L D G B c) g then 0 else 1)), .int (nI (2 * (cbWorst L D (cbPos L D G B c) N g)))]) := by
              refine n_add hx hb dX2_best_63 ?_
              refine w_top (v := nI (R g)) (by rw [hR]; unfold cbRank; rw [hVal]) ?_
              refine lv_istore (lv' := [(5, .int (nI (R g))), (0, .ref h), (1, .int (nI b)), (2, .int (bst)), (3, .int (nI lst)), (4, .int (nI g))]) hx hb dX2_best_64 hl (by decide) rfl (fun ls hl => ?_)
              refine lv_iload_n hx hb dX2_best_66 rfl (lv_at hl 3 rfl) ?_
              refine lv_if_lt (tgt := 76) hx hb dX2_best_67 (by decide) (fun c67 => ?_) (fun c67 => ?_)
              · have g0 : g = 0 := by
                  rcases h3 with ⟨q, -, -⟩ | ⟨q1, q2, -⟩
                  · exact q
                  · rw [q2] at c67; have := hag q1; exact absurd c67 (nI_pos (by omega))
                have hnew : nI g = nI (cbArg R (g + 1)) ∧ R g = R (cbArg R (g + 1)) := by
                  rw [g0, cbArg_1]; exact ⟨rfl, rfl⟩
                refine lv_iload hx hb dX2_best_76 (lv_at hl 5 rfl) ?_
                refine lv_istore_n (lv' := [(2, .int (nI g)), (5, .int (nI (R g))), (0, .ref h), (1, .int (nI b)), (3, .int (nI lst)), (4, .int (nI g))]) hx hb dX2_best_78 rfl hl (by decide) rfl (fun ls hl => ?_)
                refine lv_iload hx hb dX2_best_79 (lv_at hl 1 rfl) ?_
                refine lv_istore_n (lv' := [(3, .int (nI (R g))), (2, .int (nI g)), (5, .int (nI (R g))), (0, .ref h), (1, .int (nI b)), (4, .int (nI g))]) hx hb dX2_best_81 rfl hl (by decide) rfl (fun ls hl => ?_)
                refine lv_iinc (v := nI (g + 1)) (lv' := [(4, .int (nI (g + 1))), (3, .int (nI (R g))), (2, .int (nI g)), (5, .int (nI (R g))), (0, .ref h), (1, .int (nI b))]) hx hb dX2_best_82 hl (k := 5) rfl (nI_1 _) (by decide) rfl (fun ls hl => ?_)
                refine lv_goto (tgt := 18) hx hb dX2_best_85 (by decide) ?_
                exact ih (g + 1) _ _ _ _ _ _ _ (by omega) (by omega) (Or.inr ⟨by omega, hnew⟩) sxV I (lv_sub hl [4, 5, 2, 1, 0] rfl)
              · have g0 : 0 < g ∧ bst = nI (cbArg R g) ∧ lst = R (cbArg R g) := by
                  rcases h3 with ⟨-, q, -⟩ | q
                  · rw [q] at c67; exact absurd (by decide) c67
                  · exact q
                refine lv_iload hx hb dX2_best_70 (lv_at hl 0 rfl) ?_
                refine lv_iload_n hx hb dX2_best_72 rfl (lv_at hl 4 rfl) ?_
                refine n_icge (tgt := 82) hx hb (by omega) (by omega) dX2_best_73 (by decide) (fun c73 => ?_) (fun c73 => ?_)
                · have hnew : bst = nI (cbArg R (g + 1)) ∧ lst = R (cbArg R (g + 1)) := by
                    rw [cbArg_n (by rw [← g0.2.2]; exact c73)]; exact g0.2
                  refine lv_iinc (v := nI (g + 1)) (lv' := [(4, .int (nI (g + 1))), (5, .int (nI (R g))), (0, .ref h), (1, .int (nI b)), (2, .int (bst)), (3, .int (nI lst))]) hx hb dX2_best_82 hl (k := 5) rfl (nI_1 _) (by decide) rfl (fun ls hl => ?_)
                  refine lv_goto (tgt := 18) hx hb dX2_best_85 (by decide) ?_
                  exact ih (g + 1) _ _ _ _ _ _ _ (by omega) (by omega) (Or.inr ⟨by omega, hnew⟩) sxV I (lv_sub hl [2, 3, 4, 5, 0] rfl)
                · have hnew : nI g = nI (cbArg R (g + 1)) ∧ R g = R (cbArg R (g + 1)) := by
                    rw [cbArg_p (by rw [← g0.2.2]; exact c73)]; exact ⟨rfl, rfl⟩
                  refine lv_iload hx hb dX2_best_76 (lv_at hl 5 rfl) ?_
                  refine lv_istore_n (lv' := [(2, .int (nI g)), (5, .int (nI (R g))), (0, .ref h), (1, .int (nI b)), (3, .int (nI lst)), (4, .int (nI g))]) hx hb dX2_best_78 rfl hl (by decide) rfl (fun ls hl => ?_)
                  refine lv_iload hx hb dX2_best_79 (lv_at hl 1 rfl) ?_
                  refine lv_istore_n (lv' := [(3, .int (nI (R g))), (2, .int (nI g)), (5, .int (nI (R g))), (0, .ref h), (1, .int (nI b)), (4, .int (nI g))]) hx hb dX2_best_81 rfl hl (by decide) rfl (fun ls hl => ?_)
                  refine lv_iinc (v := nI (g + 1)) (lv' := [(4, .int (nI (g + 1))), (3, .int (nI (R g))), (2, .int (nI g)), (5, .int (nI (R g))), (0, .ref h), (1, .int (nI b))]) hx hb dX2_best_82 hl (k := 5) rfl (nI_1 _) (by decide) rfl (fun ls hl => ?_)
                  refine lv_goto (tgt := 18) hx hb dX2_best_85 (by decide) ?_
                  exact ih (g + 1) _ _ _ _ _ _ _ (by omega) (by omega) (Or.inr ⟨by omega, hnew⟩) sxV I (lv_sub hl [4, 5, 2, 1, 0] rfl)
            refine n_ifeq (tgt := 62) hx hb (Nat.lt_of_le_of_lt (Bool.toNat_le _) (by decide)) dX2_best_55 (by decide) (fun c55 => ?_) (fun c55 => ?_)
            · refine lv_iconst (v := nI 1) hx hb dX2_best_62 (by decide) ?_
              refine w_top (v := nI (if (cbPos L D G B c) g then 0 else 1)) (by rw [if_neg (by cases hc : cbPos L D G B c g <;> simp_all)]) ?_
              exact join63
            · refine lv_iconst (v := nI 0) hx hb dX2_best_58 (by decide) ?_
              refine lv_goto (tgt := 63) hx hb dX2_best_59 (by decide) ?_
              refine w_top (v := nI (if (cbPos L D G B c) g then 0 else 1)) (by rw [if_pos (by cases hc : cbPos L D G B c g <;> simp_all)]) ?_
              exact join63
    exact loop18 (N + 1) 0 _ _ _ _ _ _ _ (by omega) (by omega) (Or.inl ⟨rfl, rfl, rfl⟩) sx I (lv_sub hl [3, 4, 2, 1, 0] rfl)
  · refine lv_bipush (v := -3) hx hb dX2_best_8 (by decide) ?_
    exact ret _ _ _ _ _ _ _ dX2_best_10 (rfl) I (⟨Or.inl ⟨rfl, c5⟩, sx⟩)
set_option maxHeartbeats 4000000 in
set_option maxRecDepth 100000 in
theorem metM_safest (l : Launch) (DD : va_G) (dd : ClassId) (h : Nat) (a : Nat → Nat) (f : Nat → Int32) (r : Nat → Nat → Int32) {L D N c : Nat} {G B : Nat → Nat} (sx : stM L D N c G B f r) : mG l wM yX2_safest cX2_safest 1 .int (rmK 5) DD dd h a f r [] (fun v f' r' => (v = -3 ∧ cbCnt (cbPos L D G B c) N = 0 ∨ v = nI (cbArg (cbRank L D (cbPos L D G B c) N 0) N) ∧ 0 < cbCnt (cbPos L D G B c) N) ∧ stM L D N c G B f' r') := by
  refine mG_start (by decide) (Nat.le_of_ble_eq_true rfl) ?_
  intro p ee s m args below meth cd AA Q ls C I hl ret
  have hx := C.1
  have hb := C.2.1
  have hl : lv_has ls 1 [(0, .ref h)] := hl
  refine lv_aload_n hx hb dX2_safest_0 rfl (lv_at hl 0 rfl) ?_
  refine lv_iconst (v := nI 1) hx hb dX2_safest_1 (by decide) ?_
  refine mG_call (q := (RX2, TX2, 11)) (ci := 1) C I (metM_best l DD dd h a f r 1 sx (by decide)) ⟨_, rfl⟩ rfl cwM_Mbest cdM_best ⟨Nat.le_of_ble_eq_true rfl, Nat.le_of_ble_eq_true rfl⟩ ⟨rfl, rfl⟩ rfl hl.1 (Nat.le_of_ble_eq_true rfl) dX2_safest_2 ⟨Nat.zero_le _, Nat.zero_le _⟩ rfl (fun vZ fZ rZ H locs hpZ I => ?_)
  exact ret _ _ _ _ _ _ _ dX2_safest_5 (rfl) I (hpZ)
set_option maxHeartbeats 4000000 in
set_option maxRecDepth 100000 in
theorem metM_sharpest (l : Launch) (DD : va_G) (dd : ClassId) (h : Nat) (a : Nat → Nat) (f : Nat → Int32) (r : Nat → Nat → Int32) {L D N c : Nat} {G B : Nat → Nat} (sx : stM L D N c G B f r) : mG l wM yX2_sharpest cX2_sharpest 1 .int (rmK 5) DD dd h a f r [] (fun v f' r' => (v = -3 ∧ cbCnt (cbPos L D G B c) N = 0 ∨ v = nI (cbArg (cbRank L D (cbPos L D G B c) N 1) N) ∧ 0 < cbCnt (cbPos L D G B c) N) ∧ stM L D N c G B f' r') := by
  refine mG_start (by decide) (Nat.le_of_ble_eq_true rfl) ?_
  intro p ee s m args below meth cd AA Q ls C I hl ret
  have hx := C.1
  have hb := C.2.1
  have hl : lv_has ls 1 [(0, .ref h)] := hl
  refine lv_aload_n hx hb dX2_sharpest_0 rfl (lv_at hl 0 rfl) ?_
  refine lv_iconst (v := nI 0) hx hb dX2_sharpest_1 (by decide) ?_
  refine mG_call (q := (RX2, TX2, 11)) (ci := 1) C I (metM_best l DD dd h a f r 0 sx (by decide)) ⟨_, rfl⟩ rfl cwM_Mbest cdM_best ⟨Nat.le_of_ble_eq_true rfl, Nat.le_of_ble_eq_true rfl⟩ ⟨rfl, rfl⟩ rfl hl.1 (Nat.le_of_ble_eq_true rfl) dX2_sharpest_2 ⟨Nat.zero_le _, Nat.zero_le _⟩ rfl (fun vZ fZ rZ H locs hpZ I => ?_)
  exact ret _ _ _ _ _ _ _ dX2_sharpest_5 (rfl) I (hpZ)
set_option maxHeartbeats 4000000 in
set_option maxRecDepth 100000 in
theorem metM_useful (l : Launch) (DD : va_G) (dd : ClassId) (h : Nat) (a : Nat → Nat) (f : Nat → Int32) (r : Nat → Nat → Int32) {L D N c : Nat} {G B : Nat → Nat} (sx : stM L D N c G B f r) : mG l wM yX2_useful cX2_useful 4 .int (rmK 3) DD dd h a f r [] (fun v f' r' => v = nI (cbCnt (fun i => decide (cbCnt (cbPos L D G B c) N < cbCnt (cbAgr L D G B c i) N)) c) ∧ f' = f ∧ r' = r) := by
  refine mG_start (by decide) (Nat.le_of_ble_eq_true rfl) ?_
  intro p ee s m args below meth cd AA Q ls C I hl ret
  have hx := C.1
  have hb := C.2.1
  have hl : lv_has ls 4 [(0, .ref h)] := hl
  have gm := sx.1
  obtain ⟨hL1, hL4, hD1, hD3, hN1, hN81, hNe⟩ := gm.1
  have tb := sx.2.1
  have hc8 := sx.2.2.1
  have hf5 := sx.2.2.2.1
  have hGB := sx.2.2.2.2
  obtain ⟨Z, hZ⟩ : ∃ Z : Nat → Bool, Z = (fun i => decide (cbCnt (cbPos L D G B c) N < cbCnt (cbAgr L D G B c i) N)) := ⟨_, rfl⟩
  refine lv_aload_n hx hb dX2_useful_0 rfl (lv_at hl 0 rfl) ?_
  refine lv_iconst (v := -1) hx hb dX2_useful_1 (by decide) ?_
  refine mG_call (q := (RX2, TX2, 11)) (ci := 1) C I (metM_countPossible1 l DD dd h a f r sx) ⟨_, rfl⟩ rfl cwM_McountPossible cdM_countPossible ⟨Nat.le_of_ble_eq_true rfl, Nat.le_of_ble_eq_true rfl⟩ ⟨rfl, rfl⟩ rfl hl.1 (Nat.le_of_ble_eq_true rfl) dX2_useful_2 ⟨Nat.zero_le _, Nat.zero_le _⟩ rfl (fun v1 f1 r1 H locs hp1 I => ?_)
  obtain ⟨ev1, ef1, er1⟩ := hp1
  subst ev1
  rw [ef1, er1] at I
  refine lv_istore_n (lv' := [(1, .int (nI (cbCnt (cbPos L D G B c) N))), (0, .ref h)]) hx hb dX2_useful_5 rfl hl (by decide) rfl (fun ls hl => ?_)
  refine lv_iconst (v := nI 0) hx hb dX2_useful_6 (by decide) ?_
  refine lv_istore_n (lv' := [(2, .int (nI 0)), (1, .int (nI (cbCnt (cbPos L D G B c) N))), (0, .ref h)]) hx hb dX2_useful_7 rfl hl (by decide) rfl (fun ls hl => ?_)
  refine lv_iconst (v := nI 0) hx hb dX2_useful_8 (by decide) ?_
  refine lv_istore_n (lv' := [(3, .int (nI 0)), (2, .int (nI 0)), (1, .int (nI (cbCnt (cbPos L D G B c) N))), (0, .ref h)]) hx hb dX2_useful_9 rfl hl (by decide) rfl (fun ls hl => ?_)
  have loop10 : ∀ (n : Nat) (k : Nat) (H : Heap) (locs : List Loc) (ls : Array Slot), (c < k + n) → (k ≤ c) → iG wM DD dd AA s.heap h a f r H locs → lv_has ls 4 [(0, .ref h), (1, .int (nI (cbCnt (cbPos L D G B c) N))), (2, .int (nI (cbCnt Z k))), (3, .int (nI k))] → W p l ee (rmK 3) s m args below meth cd H locs 0 0 Q (F0 m 10 ls []) := by
    intro n
    induction n with
    | zero =>
      intros; exfalso; omega
    | succ n ih =>
      intro k H locs ls h1 h2 I hl
      refine lv_iload_n hx hb dX2_useful_10 rfl (lv_at hl 3 rfl) ?_
      refine lv_aload_n hx hb dX2_useful_11 rfl (lv_at hl 0 rfl) ?_
      refine gM_5 C I (v := nI (c)) (hf5) dX2_useful_12 ?_
      refine n_icge (tgt := 41) hx hb (by omega) (by omega) dX2_useful_15 (by decide) (fun c15 => ?_) (fun c15 => ?_)
      · have e9 : c = k := by omega
        subst e9
        refine lv_iload_n hx hb dX2_useful_41 rfl (lv_at hl 2 rfl) ?_
        exact ret _ _ _ _ _ _ _ dX2_useful_42 (rfl) I (⟨by rw [hZ], rfl, rfl⟩)
      · refine lv_aload_n hx hb dX2_useful_18 rfl (lv_at hl 0 rfl) ?_
        refine lv_iload_n hx hb dX2_useful_19 rfl (lv_at hl 3 rfl) ?_
        refine mG_call (q := (RX2, TX2, 11)) (ci := 1) C I (metM_countPossible l DD dd h a f r k (nI k) sx (fun j hj => nI_eq (by omega) (by omega))) ⟨_, rfl⟩ rfl cwM_McountPossible cdM_countPossible ⟨Nat.le_of_ble_eq_true rfl, Nat.le_of_ble_eq_true rfl⟩ ⟨rfl, rfl⟩ rfl hl.1 (Nat.le_of_ble_eq_true rfl) dX2_useful_20 ⟨Nat.zero_le _, Nat.zero_le _⟩ rfl (fun v2 f2 r2 H locs hp2 I => ?_)
        obtain ⟨ev2, ef2, er2⟩ := hp2
        subst ev2
        rw [ef2, er2] at I
        refine lv_iload_n hx hb dX2_useful_23 rfl (lv_at hl 1 rfl) ?_
        have join34 : W p l ee (rmK 3) s m args below meth cd H locs 0 0 Q (F0 m 34 ls [.int (nI (cbCnt Z (k + 1)))]) := by
          refine lv_istore_n (lv' := [(2, .int (nI (cbCnt Z (k + 1)))), (0, .ref h), (1, .int (nI (cbCnt (cbPos L D G B c) N))), (3, .int (nI k))]) hx hb dX2_useful_34 rfl hl (by decide) rfl (fun ls hl => ?_)
          refine lv_iinc (v := nI (k + 1)) (lv' := [(3, .int (nI (k + 1))), (2, .int (nI (cbCnt Z (k + 1)))), (0, .ref h), (1, .int (nI (cbCnt (cbPos L D G B c) N)))]) hx hb dX2_useful_35 hl (k := 3) rfl (nI_1 _) (by decide) rfl (fun ls hl => ?_)
          refine lv_goto (tgt := 10) hx hb dX2_useful_38 (by decide) ?_
          exact ih (k + 1) _ _ _ (by omega) (by omega) I (lv_sub hl [2, 3, 1, 0] rfl)
        refine n_icle (tgt := 33) hx hb (Nat.lt_of_le_of_lt (cbCnt_le _ _) (by omega)) (Nat.lt_of_le_of_lt (cbCnt_le _ _) (by omega)) dX2_useful_24 (by decide) (fun c24 => ?_) (fun c24 => ?_)
        · refine lv_iload_n hx hb dX2_useful_33 rfl (lv_at hl 2 rfl) ?_
          refine w_top (v := nI (cbCnt Z (k + 1))) (by rw [cbCnt_f (by rw [hZ]; exact decide_eq_false (Nat.not_lt.mpr c24))]) ?_
          exact join34
        · refine lv_iload_n hx hb dX2_useful_27 rfl (lv_at hl 2 rfl) ?_
          refine lv_iconst (v := nI 1) hx hb dX2_useful_28 (by decide) ?_
          refine n_add hx hb dX2_useful_29 ?_
          refine lv_goto (tgt := 34) hx hb dX2_useful_30 (by decide) ?_
          refine w_top (v := nI (cbCnt Z (k + 1))) (by rw [cbCnt_t (by rw [hZ]; exact decide_eq_true c24)]) ?_
          exact join34
  exact loop10 (c + 1) 0 _ _ _ (by omega) (by omega) I (lv_sub hl [3, 2, 1, 0] rfl)
end
section
set_option maxRecDepth 100000
set_option maxHeartbeats 4000000 in
set_option maxRecDepth 100000 in
theorem metM_partOf (l : Launch) (DD : va_G) (dd : ClassId) (h : Nat) (a : Nat → Nat) (f : Nat → Int32) (r : Nat → Nat → Int32) {L D N F : Nat} (fc : Nat → Nat) (u g t : Nat) (hL4 : L ≤ 4) (hD1 : 0 < D) (hN81 : N ≤ 81) (tb : ∀ g s, g < N → s < N → r 10 (81 * g + s) = nI (cbAns L D g s)) (e7 : f 7 = nI F) (hF : F ≤ 8) (hfc : ∀ k, k < F → r 6 k = nI (fc k) ∧ fc k < N) (hu : u < 256) (hg : g < N) (ht : t < 100) : mG l wM yX2_partOf cX2_partOf 7 .int (rmK 1) DD dd h a f r [.int (nI u), .int (nI g), .int (nI t)] (fun v f' r' => v = nI (cbPt (fun k => cbAns L D g (fc k)) F u t) ∧ f' = f ∧ r' = r) := by
  refine mG_start (by decide) (Nat.le_of_ble_eq_true rfl) ?_
  intro p ee s m args below meth cd AA Q ls C I hl ret
  have hx := C.1
  have hb := C.2.1
  have hl : lv_has ls 7 [(0, .ref h), (1, .int (nI u)), (2, .int (nI g)), (3, .int (nI t))] := hl
  obtain ⟨Qq, hQq⟩ : ∃ Q9 : Nat → Bool, Q9 = cbQ (fun k => cbAns L D g (fc k)) u t := ⟨_, rfl⟩
  refine lv_iconst (v := nI 0) hx hb dX2_partOf_0 (by decide) ?_
  refine lv_istore (lv' := [(4, .int (nI 0)), (0, .ref h), (1, .int (nI u)), (2, .int (nI g)), (3, .int (nI t))]) hx hb dX2_partOf_1 hl (by decide) rfl (fun ls hl => ?_)
  refine lv_iconst (v := nI 0) hx hb dX2_partOf_3 (by decide) ?_
  refine lv_istore (lv' := [(5, .int (nI 0)), (4, .int (nI 0)), (0, .ref h), (1, .int (nI u)), (2, .int (nI g)), (3, .int (nI t))]) hx hb dX2_partOf_4 hl (by decide) rfl (fun ls hl => ?_)
  have loop6 : ∀ (n : Nat) (k : Nat) (H : Heap) (locs : List Loc) (ls : Array Slot), (F < k + n) → (k ≤ F) → iG wM DD dd AA s.heap h a f r H locs → lv_has ls 7 [(0, .ref h), (1, .int (nI u)), (2, .int (nI g)), (3, .int (nI t)), (4, .int (nI (cbMask Qq k))), (5, .int (nI k))] → W p l ee (rmK 1) s m args below meth cd H locs 0 0 Q (F0 m 6 ls []) := by
    intro n
    induction n with
    | zero =>
      intros; exfalso; omega
    | succ n ih =>
      intro k H locs ls h1 h2 I hl
      refine lv_iload hx hb dX2_partOf_6 (lv_at hl 5 rfl) ?_
      refine lv_aload_n hx hb dX2_partOf_8 rfl (lv_at hl 0 rfl) ?_
      refine gM_7 C I (v := nI (F)) (e7) dX2_partOf_9 ?_
      refine n_icge (tgt := 73) hx hb (by omega) (by omega) dX2_partOf_12 (by decide) (fun c12 => ?_) (fun c12 => ?_)
      · have e9 : F = k := by omega
        subst e9
        refine lv_iload hx hb dX2_partOf_73 (lv_at hl 4 rfl) ?_
        exact ret _ _ _ _ _ _ _ dX2_partOf_75 (rfl) I (⟨by rw [hQq]; rfl, rfl, rfl⟩)
      · have hQk : Qq k = (u.testBit k && decide (cbAns L D g (fc k) = t)) := by rw [hQq]; rfl
        refine lv_iload_n hx hb dX2_partOf_15 rfl (lv_at hl 1 rfl) ?_
        refine lv_iload hx hb dX2_partOf_16 (lv_at hl 5 rfl) ?_
        refine lv_ishr hx hb dX2_partOf_18 ?_
        refine lv_iconst (v := nI 1) hx hb dX2_partOf_19 (by decide) ?_
        refine lv_iand hx hb dX2_partOf_20 ?_
        refine w_top (v := nI ((u.testBit k).toNat)) (cb_bitD k (by omega) u hu) ?_
        refine lv_iconst (v := nI 1) hx hb dX2_partOf_21 (by decide) ?_
        have join46 : ∀ (H : Heap) (locs : List Loc), iG wM DD dd AA s.heap h a f r H locs → W p l ee (rmK 1) s m args below meth cd H locs 0 0 Q (F0 m 46 ls [.int (nI ((Qq k).toNat))]) := by
          intro H locs I
          refine lv_istore (lv' := [(6, .int (nI ((Qq k).toNat))), (0, .ref h), (1, .int (nI u)), (2, .int (nI g)), (3, .int (nI t)), (4, .int (nI (cbMask Qq k))), (5, .int (nI k))]) hx hb dX2_partOf_46 hl (by decide) rfl (fun ls hl => ?_)
          refine lv_iload hx hb dX2_partOf_48 (lv_at hl 0 rfl) ?_
          have join65 : W p l ee (rmK 1) s m args below meth cd H locs 0 0 Q (F0 m 65 ls [.int (nI (cbMask Qq (k + 1)))]) := by
            refine lv_istore (lv' := [(4, .int (nI (cbMask Qq (k + 1)))), (6, .int (nI ((Qq k).toNat))), (0, .ref h), (1, .int (nI u)), (2, .int (nI g)), (3, .int (nI t)), (5, .int (nI k))]) hx hb dX2_partOf_65 hl (by decide) rfl (fun ls hl => ?_)
            refine lv_iinc (v := nI (k + 1)) (lv' := [(5, .int (nI (k + 1))), (4, .int (nI (cbMask Qq (k + 1)))), (6, .int (nI ((Qq k).toNat))), (0, .ref h), (1, .int (nI u)), (2, .int (nI g)), (3, .int (nI t))]) hx hb dX2_partOf_67 hl (k := 6) rfl (nI_1 _) (by decide) rfl (fun ls hl => ?_)
            refine lv_goto (tgt := 6) hx hb dX2_partOf_70 (by decide) ?_
            exact ih (k + 1) _ _ _ (by omega) (by omega) I (lv_sub hl [3, 4, 5, 6, 1, 0] rfl)
          refine n_ifeq (tgt := 63) hx hb (Nat.lt_of_le_of_lt (Bool.toNat_le _) (by decide)) dX2_partOf_50 (by decide) (fun c50 => ?_) (fun c50 => ?_)
          · refine lv_iload hx hb dX2_partOf_63 (lv_at hl 5 rfl) ?_
            refine w_top (v := nI (cbMask Qq (k + 1))) (by rw [cbMask_f (by cases hc : Qq k <;> simp_all)]) ?_
            exact join65
          · refine lv_iload hx hb dX2_partOf_53 (lv_at hl 5 rfl) ?_
            refine lv_iconst (v := nI 1) hx hb dX2_partOf_55 (by decide) ?_
            refine lv_iload hx hb dX2_partOf_56 (lv_at hl 6 rfl) ?_
            refine lv_ishl hx hb dX2_partOf_58 ?_
            refine w_top (v := nI (2 ^ k)) (cb_shlD k (by omega)) ?_
            refine lv_ior hx hb dX2_partOf_59 ?_
            refine w_top (v := nI (cbMask Qq k + 2 ^ k)) (cb_orD k (by omega) _ (cbMask_lt _ _)) ?_
            refine lv_goto (tgt := 65) hx hb dX2_partOf_60 (by decide) ?_
            refine w_top (v := nI (cbMask Qq (k + 1))) (by rw [cbMask_t (by cases hc : Qq k <;> simp_all)]) ?_
            exact join65
        refine n_icne (tgt := 45) hx hb (Nat.lt_of_le_of_lt (Bool.toNat_le _) (by decide)) (by omega) dX2_partOf_22 (by decide) (fun c22 => ?_) (fun c22 => ?_)
        · refine lv_iconst (v := nI 0) hx hb dX2_partOf_45 (by decide) ?_
          refine w_top (v := nI ((Qq k).toNat)) (by rw [hQk]; cases hc : u.testBit k <;> simp_all) ?_
          exact join46 _ _ I
        · refine lv_aload_n hx hb dX2_partOf_25 rfl (lv_at hl 0 rfl) ?_
          refine lv_iload_n hx hb dX2_partOf_26 rfl (lv_at hl 2 rfl) ?_
          refine lv_aload_n hx hb dX2_partOf_27 rfl (lv_at hl 0 rfl) ?_
          refine gM_6 C I dX2_partOf_28 ?_
          refine lv_iload hx hb dX2_partOf_31 (lv_at hl 5 rfl) ?_
          refine ldM_6 C I (k) (rfl) (by omega) (v := nI (fc k)) ((hfc k c12).1) dX2_partOf_33 ?_
          refine mG_call (q := (RX2, TX2, 11)) (ci := 1) C I (metM_answerTo l DD dd h a f r g (fc k) hN81 tb hg (hfc k c12).2) ⟨_, rfl⟩ rfl cwM_ManswerTo cdM_answerTo ⟨Nat.le_of_ble_eq_true rfl, Nat.le_of_ble_eq_true rfl⟩ ⟨rfl, rfl⟩ rfl hl.1 (Nat.le_of_ble_eq_true rfl) dX2_partOf_34 ⟨Nat.zero_le _, Nat.zero_le _⟩ rfl (fun v1 f1 r1 H locs hp1 I => ?_)
          obtain ⟨ev1, ef1, er1⟩ := hp1
          subst ev1
          rw [ef1, er1] at I
          refine lv_iload_n hx hb dX2_partOf_37 rfl (lv_at hl 3 rfl) ?_
          refine n_icne (tgt := 45) hx hb (Nat.lt_trans (cbAns_lt hD1 hL4 _ _) (by decide)) (by omega) dX2_partOf_38 (by decide) (fun c38 => ?_) (fun c38 => ?_)
          · refine lv_iconst (v := nI 0) hx hb dX2_partOf_45 (by decide) ?_
            refine w_top (v := nI ((Qq k).toNat)) (by rw [hQk, decide_eq_false c38, Bool.and_false]; rfl) ?_
            exact join46 _ _ I
          · refine lv_iconst (v := nI 1) hx hb dX2_partOf_41 (by decide) ?_
            refine lv_goto (tgt := 46) hx hb dX2_partOf_42 (by decide) ?_
            refine w_top (v := nI ((Qq k).toNat)) (by rw [hQk, decide_eq_true c38]; cases hc : u.testBit k <;> simp_all) ?_
            exact join46 _ _ I
  exact loop6 (F + 1) 0 _ _ _ (by omega) (by omega) I (lv_sub hl [2, 3, 4, 5, 1, 0] rfl)
set_option maxHeartbeats 4000000 in
set_option maxRecDepth 100000 in
theorem metM_leaves (l : Launch) (DD : va_G) (dd : ClassId) (h : Nat) (a : Nat → Nat) (f : Nat → Int32) (r : Nat → Nat → Int32) {L D N F : Nat} (fc : Nat → Nat) (E : Nat → Nat) (u g gs : Nat) (hL4 : L ≤ 4) (hD1 : 0 < D) (hN81 : N ≤ 81) (tb : ∀ g s, g < N → s < N → r 10 (81 * g + s) = nI (cbAns L D g s)) (e7 : f 7 = nI F) (hF : F ≤ 8) (hfc : ∀ k, k < F → r 6 k = nI (fc k) ∧ fc k < N) (e0 : f 0 = nI L) (hu : u < 2 ^ F) (hg : g < N) (hgs : gs < 100) (hE : ∀ t, t ≤ u → r 8 t = nI (E t) ∧ E t ≤ 100) : mG l wM yX2_leaves cX2_leaves 8 .boolean (rmK 2) DD dd h a f r [.int (nI u), .int (nI g), .int (nI gs)] (fun v f' r' => v = nI (cbLv (fun k => cbAns L D g (fc k)) F (10 * L) E u gs).toNat ∧ f' = f ∧ r' = r) := by
  refine mG_start (by decide) (Nat.le_of_ble_eq_true rfl) ?_
  intro p ee s m args below meth cd AA Q ls C I hl ret
  have hx := C.1
  have hb := C.2.1
  have hl : lv_has ls 8 [(0, .ref h), (1, .int (nI u)), (2, .int (nI g)), (3, .int (nI gs))] := hl
  obtain ⟨A, hA⟩ : ∃ A : Nat → Nat, A = (fun k => cbAns L D g (fc k)) := ⟨_, rfl⟩
  obtain ⟨Bp, hBp⟩ : ∃ Bp : Nat → Bool, Bp = cbBadP A F (10 * L) E u gs := ⟨_, rfl⟩
  have hBd : ∀ j, Bp j = (u.testBit j && (!decide (A j = 10 * L) && decide (gs < E (cbPt A F u (A j))))) := fun j => by rw [hBp]; rfl
  have h2F := cb_pow8 hF
  refine lv_iload_n hx hb dX2_leaves_0 rfl (lv_at hl 1 rfl) ?_
  refine lv_istore (lv' := [(4, .int (nI u)), (0, .ref h), (1, .int (nI u)), (2, .int (nI g)), (3, .int (nI gs))]) hx hb dX2_leaves_1 hl (by decide) rfl (fun ls hl => ?_)
  have loop3 : ∀ (n : Nat) (q : Nat) (Dn : Nat → Bool) (H : Heap) (locs : List Loc) (ls : Array Slot), (q < n) → (q = cbMask (fun j => u.testBit j && !Dn (A j)) F) → (∀ j, j < F → u.testBit j = true → Dn (A j) = true → Bp j = false) → iG wM DD dd AA s.heap h a f r H locs → lv_has ls 8 [(0, .ref h), (1, .int (nI u)), (2, .int (nI g)), (3, .int (nI gs)), (4, .int (nI q))] → W p l ee (rmK 2) s m args below meth cd H locs 0 0 Q (F0 m 3 ls []) := by
    intro n
    induction n with
    | zero =>
      intros; exfalso; omega
    | succ n ih =>
      intro q Dn H locs ls h1 hq hDn I hl
      have hqF : q < 2 ^ F := by rw [hq]; exact cbMask_lt _ _
      refine lv_iload hx hb dX2_leaves_3 (lv_at hl 4 rfl) ?_
      refine n_ifeq (tgt := 89) hx hb (by omega) dX2_leaves_5 (by decide) (fun c5 => ?_) (fun c5 => ?_)
      · have hz : cbMask (fun j => u.testBit j && !Dn (A j)) F = 0 := by rw [← hq]; exact c5
        refine lv_iconst (v := nI 1) hx hb dX2_leaves_89 (by decide) ?_
        exact ret _ _ _ _ _ _ _ dX2_leaves_90 (rfl) I (⟨by
          unfold cbLv
          rw [← hA, ← hBp, cbAny_none.mpr (fun j hj => ?_)]
          · rfl
          · have z := cbMask_zero hz j hj
            cases hb : u.testBit j with
            | false => rw [hBd j, hb]; rfl
            | true =>
              refine hDn j hj hb ?_
              have z : (u.testBit j && !Dn (A j)) = false := z
              rw [hb] at z
              simpa using z, rfl, rfl⟩)
      · refine lv_iconst (v := nI 0) hx hb dX2_leaves_8 (by decide) ?_
        refine lv_istore (lv' := [(5, .int (nI 0)), (0, .ref h), (1, .int (nI u)), (2, .int (nI g)), (3, .int (nI gs)), (4, .int (nI q))]) hx hb dX2_leaves_9 hl (by decide) rfl (fun ls hl => ?_)
        have loop11 : ∀ (n2 : Nat) (i : Nat) (H : Heap) (locs : List Loc) (ls : Array Slot), (F < i + n2) → (i ≤ F) → (∀ j, j < i → q.testBit j = false) → iG wM DD dd AA s.heap h a f r H locs → lv_has ls 8 [(0, .ref h), (1, .int (nI u)), (2, .int (nI g)), (3, .int (nI gs)), (4, .int (nI q)), (5, .int (nI i))] → W p l ee (rmK 2) s m args below meth cd H locs 0 0 Q (F0 m 11 ls []) := by
          intro n2
          induction n2 with
          | zero =>
            intros; exfalso; omega
          | succ n2 ih2 =>
            intro i H locs ls h3 h4 hlow I hl
            have hiF : i < F := by
              obtain ⟨k, hk, hb⟩ := cbBit_ex hqF c5
              rcases Nat.lt_or_ge k i with z | z
              · rw [hlow k z] at hb; cases hb
              · omega
            refine lv_iload hx hb dX2_leaves_11 (lv_at hl 4 rfl) ?_
            refine lv_iload hx hb dX2_leaves_13 (lv_at hl 5 rfl) ?_
            refine lv_ishr hx hb dX2_leaves_15 ?_
            refine lv_iconst (v := nI 1) hx hb dX2_leaves_16 (by decide) ?_
            refine lv_iand hx hb dX2_leaves_17 ?_
            refine w_top (v := nI ((q.testBit i).toNat)) (cb_bitD i (by omega) q (by omega)) ?_
            refine n_ifne (tgt := 27) hx hb (Nat.lt_of_le_of_lt (Bool.toNat_le _) (by decide)) dX2_leaves_18 (by decide) (fun c18 => ?_) (fun c18 => ?_)
            · have hqi : q.testBit i = true := by cases hc : q.testBit i <;> simp_all
              have hqb : (u.testBit i && !Dn (A i)) = true := by
                rw [hq, cbMask_bit, decide_eq_true hiF, Bool.true_and] at hqi
                exact hqi
              have hui : u.testBit i = true := by rw [Bool.and_eq_true] at hqb; exact hqb.1
              have hDi : Dn (A i) = false := by rw [Bool.and_eq_true] at hqb; simpa using hqb.2
              have hAi : A i = cbAns L D g (fc i) := by rw [hA]
              have hAl : A i < 45 := by rw [hAi]; exact cbAns_lt hD1 hL4 _ _
              have hpt : cbPt A F q (A i) = cbPt A F u (A i) := cb_restPt hq hDi
              have hpl := cbPt_le A F u (A i)
              refine lv_aload_n hx hb dX2_leaves_27 rfl (lv_at hl 0 rfl) ?_
              refine lv_iload_n hx hb dX2_leaves_28 rfl (lv_at hl 2 rfl) ?_
              refine lv_aload_n hx hb dX2_leaves_29 rfl (lv_at hl 0 rfl) ?_
              refine gM_6 C I dX2_leaves_30 ?_
              refine lv_iload hx hb dX2_leaves_33 (lv_at hl 5 rfl) ?_
              refine ldM_6 C I (i) (rfl) (by omega) (v := nI (fc i)) ((hfc i hiF).1) dX2_leaves_35 ?_
              refine mG_call (q := (RX2, TX2, 11)) (ci := 1) C I (metM_answerTo l DD dd h a f r g (fc i) hN81 tb hg (hfc i hiF).2) ⟨_, rfl⟩ rfl cwM_ManswerTo cdM_answerTo ⟨Nat.le_of_ble_eq_true rfl, Nat.le_of_ble_eq_true rfl⟩ ⟨rfl, rfl⟩ rfl hl.1 (Nat.le_of_ble_eq_true rfl) dX2_leaves_36 ⟨Nat.zero_le _, Nat.zero_le _⟩ rfl (fun v1 f1 r1 H locs hp1 I => ?_)
              obtain ⟨ev1, ef1, er1⟩ := hp1
              subst ev1
              rw [ef1, er1] at I
              refine w_top (v := nI (A i)) (by rw [hA]) ?_
              refine lv_istore (lv' := [(6, .int (nI (A i))), (0, .ref h), (1, .int (nI u)), (2, .int (nI g)), (3, .int (nI gs)), (4, .int (nI q)), (5, .int (nI i))]) hx hb dX2_leaves_39 hl (by decide) rfl (fun ls hl => ?_)
              refine lv_aload_n hx hb dX2_leaves_41 rfl (lv_at hl 1 rfl) ?_
              refine lv_iload hx hb dX2_leaves_42 (lv_at hl 5 rfl) ?_
              refine lv_iload_n hx hb dX2_leaves_44 rfl (lv_at hl 3 rfl) ?_
              refine lv_iload hx hb dX2_leaves_45 (lv_at hl 0 rfl) ?_
              refine mG_call (q := (RX2, TX2, 11)) (ci := 1) C I (metM_partOf l DD dd h a f r fc q g (A i) hL4 hD1 hN81 tb e7 hF hfc (by omega) hg (by omega)) ⟨_, rfl⟩ rfl cwM_MpartOf cdM_partOf ⟨Nat.le_of_ble_eq_true rfl, Nat.le_of_ble_eq_true rfl⟩ ⟨rfl, rfl⟩ rfl hl.1 (Nat.le_of_ble_eq_true rfl) dX2_leaves_47 ⟨Nat.zero_le _, Nat.zero_le _⟩ rfl (fun vK fK rK H locs hpK I => ?_)
              obtain ⟨evK, efK, erK⟩ := hpK
              subst evK
              rw [efK, erK] at I
              refine w_top (v := nI (cbPt A F q (A i))) (by rw [hA]) ?_
              refine lv_istore (lv' := [(7, .int (nI (cbPt A F q (A i)))), (6, .int (nI (A i))), (0, .ref h), (1, .int (nI u)), (2, .int (nI g)), (3, .int (nI gs)), (4, .int (nI q)), (5, .int (nI i))]) hx hb dX2_leaves_50 hl (by decide) rfl (fun ls hl => ?_)
              refine lv_iload hx hb dX2_leaves_52 (lv_at hl 1 rfl) ?_
              refine lv_bipush (v := nI 10) hx hb dX2_leaves_54 (by decide) ?_
              refine lv_aload_n hx hb dX2_leaves_56 rfl (lv_at hl 2 rfl) ?_
              refine gM_0 C I (v := nI (L)) (e0) dX2_leaves_57 ?_
              refine n_mul hx hb dX2_leaves_60 ?_
              refine n_iceq (tgt := 77) hx hb (by omega) (by omega) dX2_leaves_61 (by decide) (fun c61 => ?_) (fun c61 => ?_)
              · have hgood : (true && (!decide (A i = 10 * L) && decide (gs < E (cbPt A F u (A i))))) = false := by rw [decide_eq_true c61]; rfl
                refine lv_iload hx hb dX2_leaves_77 (lv_at hl 6 rfl) ?_
                refine lv_iload hx hb dX2_leaves_79 (lv_at hl 0 rfl) ?_
                refine lv_iconst (v := -1) hx hb dX2_leaves_81 (by decide) ?_
                refine lv_ixor hx hb dX2_leaves_82 ?_
                refine lv_iand hx hb dX2_leaves_83 ?_
                refine w_top (v := nI (cbMask (fun j => u.testBit j && !(Dn (A j) || decide (A j = A i))) F)) (cb_rest hF hq) ?_
                refine lv_istore (lv' := [(4, .int (nI (cbMask (fun j => u.testBit j && !(Dn (A j) || decide (A j = A i))) F))), (7, .int (nI (cbPt A F q (A i)))), (6, .int (nI (A i))), (0, .ref h), (1, .int (nI u)), (2, .int (nI g)), (3, .int (nI gs)), (5, .int (nI i))]) hx hb dX2_leaves_84 hl (by decide) rfl (fun ls hl => ?_)
                refine lv_goto (tgt := 3) hx hb dX2_leaves_86 (by decide) ?_
                refine ih _ (fun t => Dn t || decide (t = A i)) _ _ _ ?_ rfl ?_ I (lv_sub hl [3, 4, 5, 6, 0] rfl)
                · refine Nat.lt_of_lt_of_le ?_ (Nat.le_of_lt_succ h1)
                  rw [hq]
                  refine cbMask_less (i := i) (fun k _ z => ?_) hiF ?_ ?_
                  · simp only [Bool.and_eq_true] at z ⊢
                    refine ⟨z.1, ?_⟩
                    cases hc : Dn (A k) with
                    | false => rfl
                    | true => rw [hc] at z; simp at z
                  · show (u.testBit i && !(Dn (A i) || decide (A i = A i))) = false
                    simp
                  · show (u.testBit i && !Dn (A i)) = true
                    rw [hui, hDi]; rfl
                · intro j hj hb hd
                  by_cases hj1 : Dn (A j) = true
                  · exact hDn j hj hb hj1
                  · have hd : (Dn (A j) || decide (A j = A i)) = true := hd
                    have hji : A j = A i := by
                      cases hc : Dn (A j) with
                      | true => exact absurd hc hj1
                      | false => rw [hc] at hd; simpa using hd
                    rw [hBd j, hji, hb]
                    exact hgood
              · refine lv_aload_n hx hb dX2_leaves_64 rfl (lv_at hl 2 rfl) ?_
                refine gM_8 C I dX2_leaves_65 ?_
                refine lv_iload hx hb dX2_leaves_68 (lv_at hl 0 rfl) ?_
                refine ldM_8 C I (cbPt A F u (A i)) (by rw [hpt]) (by omega) (v := nI (E (cbPt A F u (A i)))) ((hE _ hpl).1) dX2_leaves_70 ?_
                refine lv_iload_n hx hb dX2_leaves_71 rfl (lv_at hl 5 rfl) ?_
                refine n_icle (tgt := 77) hx hb (Nat.lt_of_le_of_lt (hE _ hpl).2 (by decide)) (by omega) dX2_leaves_72 (by decide) (fun c72 => ?_) (fun c72 => ?_)
                · have hgood : (true && (!decide (A i = 10 * L) && decide (gs < E (cbPt A F u (A i))))) = false := by rw [decide_eq_false (Nat.not_lt.mpr c72)]; simp
                  refine lv_iload hx hb dX2_leaves_77 (lv_at hl 6 rfl) ?_
                  refine lv_iload hx hb dX2_leaves_79 (lv_at hl 0 rfl) ?_
                  refine lv_iconst (v := -1) hx hb dX2_leaves_81 (by decide) ?_
                  refine lv_ixor hx hb dX2_leaves_82 ?_
                  refine lv_iand hx hb dX2_leaves_83 ?_
                  refine w_top (v := nI (cbMask (fun j => u.testBit j && !(Dn (A j) || decide (A j = A i))) F)) (cb_rest hF hq) ?_
                  refine lv_istore (lv' := [(4, .int (nI (cbMask (fun j => u.testBit j && !(Dn (A j) || decide (A j = A i))) F))), (7, .int (nI (cbPt A F q (A i)))), (6, .int (nI (A i))), (0, .ref h), (1, .int (nI u)), (2, .int (nI g)), (3, .int (nI gs)), (5, .int (nI i))]) hx hb dX2_leaves_84 hl (by decide) rfl (fun ls hl => ?_)
                  refine lv_goto (tgt := 3) hx hb dX2_leaves_86 (by decide) ?_
                  refine ih _ (fun t => Dn t || decide (t = A i)) _ _ _ ?_ rfl ?_ I (lv_sub hl [3, 4, 5, 6, 0] rfl)
                  · refine Nat.lt_of_lt_of_le ?_ (Nat.le_of_lt_succ h1)
                    rw [hq]
                    refine cbMask_less (i := i) (fun k _ z => ?_) hiF ?_ ?_
                    · simp only [Bool.and_eq_true] at z ⊢
                      refine ⟨z.1, ?_⟩
                      cases hc : Dn (A k) with
                      | false => rfl
                      | true => rw [hc] at z; simp at z
                    · show (u.testBit i && !(Dn (A i) || decide (A i = A i))) = false
                      simp
                    · show (u.testBit i && !Dn (A i)) = true
                      rw [hui, hDi]; rfl
                  · intro j hj hb hd
                    by_cases hj1 : Dn (A j) = true
                    · exact hDn j hj hb hj1
                    · have hd : (Dn (A j) || decide (A j = A i)) = true := hd
                      have hji : A j = A i := by
                        cases hc : Dn (A j) with
                        | true => exact absurd hc hj1
                        | false => rw [hc] at hd; simpa using hd
                      rw [hBd j, hji, hb]
                      exact hgood
                · refine lv_iconst (v := nI 0) hx hb dX2_leaves_75 (by decide) ?_
                  exact ret _ _ _ _ _ _ _ dX2_leaves_76 (rfl) I (⟨by unfold cbLv; rw [← hA, ← hBp, cbAny_iff.mpr ⟨i, hiF, by rw [hBd i, hui, decide_eq_false c61, decide_eq_true c72]; rfl⟩]; rfl, rfl, rfl⟩)
            · refine lv_iinc (v := nI (i + 1)) (lv' := [(5, .int (nI (i + 1))), (0, .ref h), (1, .int (nI u)), (2, .int (nI g)), (3, .int (nI gs)), (4, .int (nI q))]) hx hb dX2_leaves_21 hl (k := 5) rfl (nI_1 _) (by decide) rfl (fun ls hl => ?_)
              refine lv_goto (tgt := 11) hx hb dX2_leaves_24 (by decide) ?_
              exact ih2 (i + 1) _ _ _ (by omega) (by omega) (fun j hj => by
                by_cases hji : j = i
                · rw [hji]; cases hc : q.testBit i <;> simp_all
                · exact hlow j (by omega)) I (lv_sub hl [1, 2, 3, 4, 5, 0] rfl)
        exact loop11 (F + 1) 0 _ _ _ (by omega) (by omega) (fun j hj => absurd hj (Nat.not_lt_zero j)) I (lv_sub hl [1, 2, 3, 4, 5, 0] rfl)
  exact loop3 (u + 1) u (fun _ => false) _ _ _ (by omega) (by rw [show (fun j => u.testBit j && !(fun _ => false) (A j)) = (fun j => u.testBit j) by funext j; simp]; exact (cbMask_self hu).symm) (fun j _ _ z => by cases z) I (lv_sub hl [1, 2, 3, 4, 0] rfl)
set_option maxHeartbeats 4000000 in
set_option maxRecDepth 100000 in
theorem metM_isIn (l : Launch) (DD : va_G) (dd : ClassId) (h : Nat) (a : Nat → Nat) (f : Nat → Int32) (r : Nat → Nat → Int32) {F : Nat} (fc : Nat → Nat) (u g : Nat) (e7 : f 7 = nI F) (hF : F ≤ 8) (hfc : ∀ k, k < F → r 6 k = nI (fc k) ∧ fc k < 81) (hu : u < 256) (hg : g < 81) : mG l wM yX2_isIn cX2_isIn 4 .boolean (rmK 0) DD dd h a f r [.int (nI u), .int (nI g)] (fun v f' r' => v = nI (cbIn fc F u g).toNat ∧ f' = f ∧ r' = r) := by
  refine mG_start (by decide) (Nat.le_of_ble_eq_true rfl) ?_
  intro p ee s m args below meth cd AA Q ls C I hl ret
  have hx := C.1
  have hb := C.2.1
  have hl : lv_has ls 4 [(0, .ref h), (1, .int (nI u)), (2, .int (nI g))] := hl
  obtain ⟨U, hUd⟩ : ∃ U : Nat → Bool, U = (fun k => u.testBit k && decide (fc k = g)) := ⟨_, rfl⟩
  refine lv_iconst (v := nI 0) hx hb dX2_isIn_0 (by decide) ?_
  refine lv_istore_n (lv' := [(3, .int (nI 0)), (0, .ref h), (1, .int (nI u)), (2, .int (nI g))]) hx hb dX2_isIn_1 rfl hl (by decide) rfl (fun ls hl => ?_)
  have loop2 : ∀ (n : Nat) (k : Nat) (H : Heap) (locs : List Loc) (ls : Array Slot), (F < k + n) → (k ≤ F) → (∀ j, j < k → U j = false) → iG wM DD dd AA s.heap h a f r H locs → lv_has ls 4 [(0, .ref h), (1, .int (nI u)), (2, .int (nI g)), (3, .int (nI k))] → W p l ee (rmK 0) s m args below meth cd H locs 0 0 Q (F0 m 2 ls []) := by
    intro n
    induction n with
    | zero =>
      intros; exfalso; omega
    | succ n ih =>
      intro k H locs ls h1 h2 h3 I hl
      refine lv_iload_n hx hb dX2_isIn_2 rfl (lv_at hl 3 rfl) ?_
      refine lv_aload_n hx hb dX2_isIn_3 rfl (lv_at hl 0 rfl) ?_
      refine gM_7 C I (v := nI (F)) (e7) dX2_isIn_4 ?_
      refine n_icge (tgt := 37) hx hb (by omega) (by omega) dX2_isIn_7 (by decide) (fun c7 => ?_) (fun c7 => ?_)
      · refine lv_iconst (v := nI 0) hx hb dX2_isIn_37 (by decide) ?_
        exact ret _ _ _ _ _ _ _ dX2_isIn_38 (rfl) I (⟨by unfold cbIn; rw [← hUd, cbAny_none.mpr (fun j hj => h3 j (by omega))]; rfl, rfl, rfl⟩)
      · have hU : U k = (u.testBit k && decide (fc k = g)) := by rw [hUd]
        refine lv_iload_n hx hb dX2_isIn_10 rfl (lv_at hl 1 rfl) ?_
        refine lv_iload_n hx hb dX2_isIn_11 rfl (lv_at hl 3 rfl) ?_
        refine lv_ishr hx hb dX2_isIn_12 ?_
        refine lv_iconst (v := nI 1) hx hb dX2_isIn_13 (by decide) ?_
        refine lv_iand hx hb dX2_isIn_14 ?_
        refine w_top (v := nI ((u.testBit k).toNat)) (cb_bitD k (by omega) u hu) ?_
        refine lv_iconst (v := nI 1) hx hb dX2_isIn_15 (by decide) ?_
        refine n_icne (tgt := 31) hx hb (Nat.lt_of_le_of_lt (Bool.toNat_le _) (by decide)) (by omega) dX2_isIn_16 (by decide) (fun c16 => ?_) (fun c16 => ?_)
        · have hUk : U k = false := by rw [hU]; cases hc : u.testBit k <;> simp_all
          refine lv_iinc (v := nI (k + 1)) (lv' := [(3, .int (nI (k + 1))), (0, .ref h), (1, .int (nI u)), (2, .int (nI g))]) hx hb dX2_isIn_31 hl (k := 3) rfl (nI_1 _) (by decide) rfl (fun ls hl => ?_)
          refine lv_goto (tgt := 2) hx hb dX2_isIn_34 (by decide) ?_
          exact ih (k + 1) _ _ _ (by omega) (by omega) (fun j hj => by
            by_cases hjk : j = k
            · rw [hjk]; exact hUk
            · exact h3 j (by omega)) I (lv_sub hl [1, 2, 3, 0] rfl)
        · refine lv_aload_n hx hb dX2_isIn_19 rfl (lv_at hl 0 rfl) ?_
          refine gM_6 C I dX2_isIn_20 ?_
          refine lv_iload_n hx hb dX2_isIn_23 rfl (lv_at hl 3 rfl) ?_
          refine ldM_6 C I (k) (rfl) (by omega) (v := nI (fc k)) ((hfc k c7).1) dX2_isIn_24 ?_
          refine lv_iload_n hx hb dX2_isIn_25 rfl (lv_at hl 2 rfl) ?_
          refine n_icne (tgt := 31) hx hb (Nat.lt_trans (hfc k c7).2 (by decide)) (by omega) dX2_isIn_26 (by decide) (fun c26 => ?_) (fun c26 => ?_)
          · have hUk : U k = false := by rw [hU, decide_eq_false c26, Bool.and_false]
            refine lv_iinc (v := nI (k + 1)) (lv' := [(3, .int (nI (k + 1))), (0, .ref h), (1, .int (nI u)), (2, .int (nI g))]) hx hb dX2_isIn_31 hl (k := 3) rfl (nI_1 _) (by decide) rfl (fun ls hl => ?_)
            refine lv_goto (tgt := 2) hx hb dX2_isIn_34 (by decide) ?_
            exact ih (k + 1) _ _ _ (by omega) (by omega) (fun j hj => by
              by_cases hjk : j = k
              · rw [hjk]; exact hUk
              · exact h3 j (by omega)) I (lv_sub hl [1, 2, 3, 0] rfl)
          · have hUk : U k = true := by rw [hU]; cases hc : u.testBit k <;> simp_all
            refine lv_iconst (v := nI 1) hx hb dX2_isIn_29 (by decide) ?_
            exact ret _ _ _ _ _ _ _ dX2_isIn_30 (rfl) I (⟨by unfold cbIn; rw [← hUd, cbAny_iff.mpr ⟨k, c7, hUk⟩]; rfl, rfl, rfl⟩)
  exact loop2 (F + 1) 0 _ _ _ (by omega) (by omega) (fun j hj => absurd hj (Nat.not_lt_zero j)) I (lv_sub hl [1, 2, 3, 0] rfl)
set_option maxHeartbeats 4000000 in
set_option maxRecDepth 100000 in
theorem metM_canBeDone (l : Launch) (DD : va_G) (dd : ClassId) (h : Nat) (a : Nat → Nat) (f : Nat → Int32) (r : Nat → Nat → Int32) {L D N F : Nat} (fc : Nat → Nat) (E : Nat → Nat) (u m0 w : Nat) (hL4 : L ≤ 4) (hD1 : 0 < D) (hN81 : N ≤ 81) (tb : ∀ g s, g < N → s < N → r 10 (81 * g + s) = nI (cbAns L D g s)) (e7 : f 7 = nI F) (hF : F ≤ 8) (hfc : ∀ k, k < F → r 6 k = nI (fc k) ∧ fc k < N) (e0 : f 0 = nI L) (e2 : f 2 = nI N) (hu : u < 2 ^ F) (hm1 : 1 ≤ m0) (hm9 : m0 ≤ 9) (hw : w ≤ 1) (hE : ∀ t, t ≤ u → r 8 t = nI (E t) ∧ E t ≤ 100) : mG l wM yX2_canBeDone cX2_canBeDone 5 .boolean (rmK 3) DD dd h a f r [.int (nI u), .int (nI m0), .int (nI w)] (fun v f' r' => v = nI (cbAny (fun g => cbOkG fc F w u g && cbLv (fun k => cbAns L D g (fc k)) F (10 * L) E u (m0 - 1)) N).toNat ∧ f' = f ∧ r' = r) := by
  refine mG_start (by decide) (Nat.le_of_ble_eq_true rfl) ?_
  intro p ee s m args below meth cd AA Q ls C I hl ret
  have hx := C.1
  have hb := C.2.1
  have hl : lv_has ls 5 [(0, .ref h), (1, .int (nI u)), (2, .int (nI m0)), (3, .int (nI w))] := hl
  obtain ⟨K, hK⟩ : ∃ K : Nat → Bool, K = (fun g => cbOkG fc F w u g && cbLv (fun k => cbAns L D g (fc k)) F (10 * L) E u (m0 - 1)) := ⟨_, rfl⟩
  have h2F := cb_pow8 hF
  refine lv_iconst (v := nI 0) hx hb dX2_canBeDone_0 (by decide) ?_
  refine lv_istore (lv' := [(4, .int (nI 0)), (0, .ref h), (1, .int (nI u)), (2, .int (nI m0)), (3, .int (nI w))]) hx hb dX2_canBeDone_1 hl (by decide) rfl (fun ls hl => ?_)
  have loop3 : ∀ (n : Nat) (g : Nat) (H : Heap) (locs : List Loc) (ls : Array Slot), (N < g + n) → (g ≤ N) → (∀ j, j < g → K j = false) → iG wM DD dd AA s.heap h a f r H locs → lv_has ls 5 [(0, .ref h), (1, .int (nI u)), (2, .int (nI m0)), (3, .int (nI w)), (4, .int (nI g))] → W p l ee (rmK 3) s m args below meth cd H locs 0 0 Q (F0 m 3 ls []) := by
    intro n
    induction n with
    | zero =>
      intros; exfalso; omega
    | succ n ih =>
      intro g H locs ls h1 h2 h3 I hl
      refine lv_iload hx hb dX2_canBeDone_3 (lv_at hl 4 rfl) ?_
      refine lv_aload_n hx hb dX2_canBeDone_5 rfl (lv_at hl 0 rfl) ?_
      refine gM_2 C I (v := nI (N)) (e2) dX2_canBeDone_6 ?_
      refine n_icge (tgt := 47) hx hb (by omega) (by omega) dX2_canBeDone_9 (by decide) (fun c9 => ?_) (fun c9 => ?_)
      · refine lv_iconst (v := nI 0) hx hb dX2_canBeDone_47 (by decide) ?_
        exact ret _ _ _ _ _ _ _ dX2_canBeDone_48 (rfl) I (⟨by rw [← hK, cbAny_none.mpr (fun j hj => h3 j (by omega))]; rfl, rfl, rfl⟩)
      · have hK9 : K g = (cbOkG fc F w u g && cbLv (fun k => cbAns L D g (fc k)) F (10 * L) E u (m0 - 1)) := by rw [hK]
        refine lv_iload_n hx hb dX2_canBeDone_12 rfl (lv_at hl 3 rfl) ?_
        refine n_ifeq (tgt := 26) hx hb (by omega) dX2_canBeDone_13 (by decide) (fun c13 => ?_) (fun c13 => ?_)
        · have hok : cbOkG fc F w u g = true := by unfold cbOkG; rw [decide_eq_true c13]; rfl
          refine lv_aload_n hx hb dX2_canBeDone_26 rfl (lv_at hl 0 rfl) ?_
          refine lv_iload_n hx hb dX2_canBeDone_27 rfl (lv_at hl 1 rfl) ?_
          refine lv_iload hx hb dX2_canBeDone_28 (lv_at hl 4 rfl) ?_
          refine lv_iload_n hx hb dX2_canBeDone_30 rfl (lv_at hl 2 rfl) ?_
          refine lv_iconst (v := nI 1) hx hb dX2_canBeDone_31 (by decide) ?_
          refine n_sub hx hb (by omega) dX2_canBeDone_32 ?_
          refine mG_call (q := (RX2, TX2, 11)) (ci := 1) C I (metM_leaves l DD dd h a f r fc E u g (m0 - 1) hL4 hD1 hN81 tb e7 hF hfc e0 hu c9 (by omega) hE) ⟨_, rfl⟩ rfl cwM_Mleaves cdM_leaves ⟨Nat.le_of_ble_eq_true rfl, Nat.le_of_ble_eq_true rfl⟩ ⟨rfl, rfl⟩ rfl hl.1 (Nat.le_of_ble_eq_true rfl) dX2_canBeDone_33 ⟨Nat.zero_le _, Nat.zero_le _⟩ rfl (fun v1 f1 r1 H locs hp1 I => ?_)
          obtain ⟨ev1, ef1, er1⟩ := hp1
          subst ev1
          rw [ef1, er1] at I
          refine n_ifeq (tgt := 41) hx hb (Nat.lt_of_le_of_lt (Bool.toNat_le _) (by decide)) dX2_canBeDone_36 (by decide) (fun c36 => ?_) (fun c36 => ?_)
          · have hKg : K g = false := by
              rw [hK9, hok]; cases hc : cbLv (fun k => cbAns L D g (fc k)) F (10 * L) E u (m0 - 1) <;> simp_all
            refine lv_iinc (v := nI (g + 1)) (lv' := [(4, .int (nI (g + 1))), (0, .ref h), (1, .int (nI u)), (2, .int (nI m0)), (3, .int (nI w))]) hx hb dX2_canBeDone_41 hl (k := 4) rfl (nI_1 _) (by decide) rfl (fun ls hl => ?_)
            refine lv_goto (tgt := 3) hx hb dX2_canBeDone_44 (by decide) ?_
            exact ih (g + 1) _ _ _ (by omega) (by omega) (fun j hj => by
              by_cases hjk : j = g
              · rw [hjk]; exact hKg
              · exact h3 j (by omega)) I (lv_sub hl [1, 2, 3, 4, 0] rfl)
          · have hKg : K g = true := by
              rw [hK9, hok]; cases hc : cbLv (fun k => cbAns L D g (fc k)) F (10 * L) E u (m0 - 1) <;> simp_all
            refine lv_iconst (v := nI 1) hx hb dX2_canBeDone_39 (by decide) ?_
            exact ret _ _ _ _ _ _ _ dX2_canBeDone_40 (rfl) I (⟨by rw [← hK, cbAny_iff.mpr ⟨g, c9, hKg⟩]; rfl, rfl, rfl⟩)
        · refine lv_aload_n hx hb dX2_canBeDone_16 rfl (lv_at hl 0 rfl) ?_
          refine lv_iload_n hx hb dX2_canBeDone_17 rfl (lv_at hl 1 rfl) ?_
          refine lv_iload hx hb dX2_canBeDone_18 (lv_at hl 4 rfl) ?_
          refine mG_call (q := (RX2, TX2, 11)) (ci := 1) C I (metM_isIn l DD dd h a f r fc u g e7 hF (fun k hk => ⟨(hfc k hk).1, Nat.lt_of_lt_of_le (hfc k hk).2 hN81⟩) (by omega) (by omega)) ⟨_, rfl⟩ rfl cwM_MisIn cdM_isIn ⟨Nat.le_of_ble_eq_true rfl, Nat.le_of_ble_eq_true rfl⟩ ⟨rfl, rfl⟩ rfl hl.1 (Nat.le_of_ble_eq_true rfl) dX2_canBeDone_20 ⟨Nat.zero_le _, Nat.zero_le _⟩ rfl (fun v2 f2 r2 H locs hp2 I => ?_)
          obtain ⟨ev2, ef2, er2⟩ := hp2
          subst ev2
          rw [ef2, er2] at I
          refine n_ifeq (tgt := 41) hx hb (Nat.lt_of_le_of_lt (Bool.toNat_le _) (by decide)) dX2_canBeDone_23 (by decide) (fun c23 => ?_) (fun c23 => ?_)
          · have hKg : K g = false := by
              have hok : cbOkG fc F w u g = false := by unfold cbOkG; rw [decide_eq_false c13]; cases hc : cbIn fc F u g <;> simp_all
              rw [hK9, hok]; rfl
            refine lv_iinc (v := nI (g + 1)) (lv' := [(4, .int (nI (g + 1))), (0, .ref h), (1, .int (nI u)), (2, .int (nI m0)), (3, .int (nI w))]) hx hb dX2_canBeDone_41 hl (k := 4) rfl (nI_1 _) (by decide) rfl (fun ls hl => ?_)
            refine lv_goto (tgt := 3) hx hb dX2_canBeDone_44 (by decide) ?_
            exact ih (g + 1) _ _ _ (by omega) (by omega) (fun j hj => by
              by_cases hjk : j = g
              · rw [hjk]; exact hKg
              · exact h3 j (by omega)) I (lv_sub hl [1, 2, 3, 4, 0] rfl)
          · have hok : cbOkG fc F w u g = true := by unfold cbOkG; cases hc : cbIn fc F u g <;> simp_all
            refine lv_aload_n hx hb dX2_canBeDone_26 rfl (lv_at hl 0 rfl) ?_
            refine lv_iload_n hx hb dX2_canBeDone_27 rfl (lv_at hl 1 rfl) ?_
            refine lv_iload hx hb dX2_canBeDone_28 (lv_at hl 4 rfl) ?_
            refine lv_iload_n hx hb dX2_canBeDone_30 rfl (lv_at hl 2 rfl) ?_
            refine lv_iconst (v := nI 1) hx hb dX2_canBeDone_31 (by decide) ?_
            refine n_sub hx hb (by omega) dX2_canBeDone_32 ?_
            refine mG_call (q := (RX2, TX2, 11)) (ci := 1) C I (metM_leaves l DD dd h a f r fc E u g (m0 - 1) hL4 hD1 hN81 tb e7 hF hfc e0 hu c9 (by omega) hE) ⟨_, rfl⟩ rfl cwM_Mleaves cdM_leaves ⟨Nat.le_of_ble_eq_true rfl, Nat.le_of_ble_eq_true rfl⟩ ⟨rfl, rfl⟩ rfl hl.1 (Nat.le_of_ble_eq_true rfl) dX2_canBeDone_33 ⟨Nat.zero_le _, Nat.zero_le _⟩ rfl (fun v3 f3 r3 H locs hp3 I => ?_)
            obtain ⟨ev3, ef3, er3⟩ := hp3
            subst ev3
            rw [ef3, er3] at I
            refine n_ifeq (tgt := 41) hx hb (Nat.lt_of_le_of_lt (Bool.toNat_le _) (by decide)) dX2_canBeDone_36 (by decide) (fun c36 => ?_) (fun c36 => ?_)
            · have hKg : K g = false := by
                rw [hK9, hok]; cases hc : cbLv (fun k => cbAns L D g (fc k)) F (10 * L) E u (m0 - 1) <;> simp_all
              refine lv_iinc (v := nI (g + 1)) (lv' := [(4, .int (nI (g + 1))), (0, .ref h), (1, .int (nI u)), (2, .int (nI m0)), (3, .int (nI w))]) hx hb dX2_canBeDone_41 hl (k := 4) rfl (nI_1 _) (by decide) rfl (fun ls hl => ?_)
              refine lv_goto (tgt := 3) hx hb dX2_canBeDone_44 (by decide) ?_
              exact ih (g + 1) _ _ _ (by omega) (by omega) (fun j hj => by
                by_cases hjk : j = g
                · rw [hjk]; exact hKg
                · exact h3 j (by omega)) I (lv_sub hl [1, 2, 3, 4, 0] rfl)
            · have hKg : K g = true := by
                rw [hK9, hok]; cases hc : cbLv (fun k => cbAns L D g (fc k)) F (10 * L) E u (m0 - 1) <;> simp_all
              refine lv_iconst (v := nI 1) hx hb dX2_canBeDone_39 (by decide) ?_
              exact ret _ _ _ _ _ _ _ dX2_canBeDone_40 (rfl) I (⟨by rw [← hK, cbAny_iff.mpr ⟨g, c9, hKg⟩]; rfl, rfl, rfl⟩)
  exact loop3 (N + 1) 0 _ _ _ (by omega) (by omega) (fun j hj => absurd hj (Nat.not_lt_zero j)) I (lv_sub hl [1, 2, 3, 4, 0] rfl)
set_option maxHeartbeats 4000000 in
set_option maxRecDepth 100000 in
theorem metM_solve (l : Launch) (DD : va_G) (dd : ClassId) (h : Nat) (a : Nat → Nat) (f : Nat → Int32) (r : Nat → Nat → Int32) {L D N c : Nat} {G B : Nat → Nat} (w : Nat) (sx : stM L D N c G B f r) (hw : w ≤ 1) : mG l wM yX2_solve cX2_solve 7 .int (rmK 4) DD dd h a f r [.int (nI w)] (fun v f' r' => (v = -4 ∧ 8 < cbCnt (cbPos L D G B c) N ∨ cbCnt (cbPos L D G B c) N ≤ 8 ∧ v = nI ((cbT (fun g k => cbAns L D g (cbSel (cbPos L D G B c) N k)) (cbSel (cbPos L D G B c) N) (cbCnt (cbPos L D G B c) N) (10 * L) N w) (2 ^ cbCnt (cbPos L D G B c) N - 1)) ∧ f' 7 = nI (cbCnt (cbPos L D G B c) N) ∧ (∀ k, k < cbCnt (cbPos L D G B c) N → r' 6 k = nI (cbSel (cbPos L D G B c) N k)) ∧ ∃ mm, (cbT (fun g k => cbAns L D g (cbSel (cbPos L D G B c) N k)) (cbSel (cbPos L D G B c) N) (cbCnt (cbPos L D G B c) N) (10 * L) N w) (2 ^ cbCnt (cbPos L D G B c) N - 1) ≤ mm ∧ mm ≤ 9 ∧ ∀ t, t < 2 ^ cbCnt (cbPos L D G B c) N → r' 8 t = nI (cbE (cbT (fun g k => cbAns L D g (cbSel (cbPos L D G B c) N k)) (cbSel (cbPos L D G B c) N) (cbCnt (cbPos L D G B c) N) (10 * L) N w) mm t)) ∧ stM L D N c G B f' r') := by
  refine mG_start (by decide) (Nat.le_of_ble_eq_true rfl) ?_
  intro p ee s m args below meth cd AA Q ls C I hl ret
  have hx := C.1
  have hb := C.2.1
  have hl : lv_has ls 7 [(0, .ref h), (1, .int (nI w))] := hl
  have gm := sx.1
  obtain ⟨hL1, hL4, hD1, hD3, hN1, hN81, hNe⟩ := gm.1
  have tb := sx.2.1
  have hc8 := sx.2.2.1
  have hf5 := sx.2.2.2.1
  have hGB := sx.2.2.2.2
  obtain ⟨P, hP⟩ : ∃ P, P = cbPos L D G B c := ⟨_, rfl⟩
  obtain ⟨F, hF⟩ : ∃ F, F = cbCnt P N := ⟨_, rfl⟩
  have hFN : F ≤ N := by rw [hF]; exact cbCnt_le _ _
  obtain ⟨T, hT⟩ : ∃ T, T = cbT (fun g k => cbAns L D g (cbSel P N k)) (cbSel P N) F (10 * L) N w := ⟨_, rfl⟩
  have hTle : ∀ t, T t ≤ 100 := fun t => by rw [hT]; exact cbT_le _ _ _ _ _ _ _
  refine lv_aload_n hx hb dX2_solve_0 rfl (lv_at hl 0 rfl) ?_
  refine lv_aload_n hx hb dX2_solve_1 rfl (lv_at hl 0 rfl) ?_
  refine lv_iconst (v := -1) hx hb dX2_solve_2 (by decide) ?_
  refine mG_call (q := (RX2, TX2, 11)) (ci := 1) C I (metM_countPossible1 l DD dd h a f r sx) ⟨_, rfl⟩ rfl cwM_McountPossible cdM_countPossible ⟨Nat.le_of_ble_eq_true rfl, Nat.le_of_ble_eq_true rfl⟩ ⟨rfl, rfl⟩ rfl hl.1 (Nat.le_of_ble_eq_true rfl) dX2_solve_3 ⟨Nat.zero_le _, Nat.zero_le _⟩ rfl (fun v1 f1 r1 H locs hp1 I => ?_)
  obtain ⟨ev1, ef1, er1⟩ := hp1
  subst ev1
  rw [ef1, er1] at I
  refine w_top (v := nI (F)) (by rw [hF, hP]) ?_
  refine pM_7 C I dX2_solve_6 (fun H locs f0 ef0 of0 I => ?_)
  have sx0 : stM L D N c G B f0 r := sx.keep (fun k hk => of0 k (by omega)) rfl rfl rfl
  refine lv_aload_n hx hb dX2_solve_9 rfl (lv_at hl 0 rfl) ?_
  refine gM_7 C I (v := nI (F)) (ef0) dX2_solve_10 ?_
  refine lv_bipush (v := nI 8) hx hb dX2_solve_13 (by decide) ?_
  refine n_icle (tgt := 21) hx hb (Nat.lt_of_le_of_lt hFN (by omega)) (by omega) dX2_solve_15 (by decide) (fun c15 => ?_) (fun c15 => ?_)
  · have h2F := cb_pow8 c15
    have h2p : 1 ≤ 2 ^ F := Nat.one_le_two_pow
    refine lv_iconst (v := nI 0) hx hb dX2_solve_21 (by decide) ?_
    refine lv_istore_n (lv' := [(2, .int (nI 0)), (0, .ref h), (1, .int (nI w))]) hx hb dX2_solve_22 rfl hl (by decide) rfl (fun ls hl => ?_)
    refine lv_iconst (v := nI 0) hx hb dX2_solve_23 (by decide) ?_
    refine lv_istore_n (lv' := [(3, .int (nI 0)), (2, .int (nI 0)), (0, .ref h), (1, .int (nI w))]) hx hb dX2_solve_24 rfl hl (by decide) rfl (fun ls hl => ?_)
    have loop25 : ∀ (n : Nat) (x : Nat) (rL : Nat → Nat → Int32) (H : Heap) (locs : List Loc) (ls : Array Slot), (N < x + n) → (x ≤ N) → (∀ j, j ≠ 6 → rL j = r j) → (∀ k, k < cbCnt P x → rL 6 k = nI (cbSel P x k)) → iG wM DD dd AA s.heap h a f0 rL H locs → lv_has ls 7 [(0, .ref h), (1, .int (nI w)), (2, .int (nI (cbCnt P x))), (3, .int (nI x))] → W p l ee (rmK 4) s m args below meth cd H locs 0 0 Q (F0 m 25 ls []) := by
      intro n
      induction n with
      | zero =>
        intros; exfalso; omega
      | succ n ih =>
        intro x rL H locs ls h1 h2 hrL h6 I hl
        have sxL : stM L D N c G B f0 rL := sx0.keep (fun _ _ => rfl) (hrL 3 (by decide)) (hrL 4 (by decide)) (hrL 10 (by decide))
        refine lv_iload_n hx hb dX2_solve_25 rfl (lv_at hl 3 rfl) ?_
        refine lv_aload_n hx hb dX2_solve_26 rfl (lv_at hl 0 rfl) ?_
        refine gM_2 C I (v := nI (N)) (sxL.1.2.2.2) dX2_solve_27 ?_
        refine n_icge (tgt := 58) hx hb (by omega) (by omega) dX2_solve_30 (by decide) (fun c30 => ?_) (fun c30 => ?_)
        · have e9 : N = x := by omega
          subst e9
          rw [← hF] at h6
          clear ih h1 h2 c30
          refine lv_iconst (v := nI 0) hx hb dX2_solve_58 (by decide) ?_
          refine lv_istore_n (lv' := [(3, .int (nI 0)), (0, .ref h), (1, .int (nI w)), (2, .int (nI (cbCnt P N)))]) hx hb dX2_solve_59 rfl hl (by decide) rfl (fun ls hl => ?_)
          have loop60 : ∀ (n2 : Nat) (t : Nat) (rB : Nat → Nat → Int32) (H : Heap) (locs : List Loc) (ls : Array Slot), (256 < t + n2) → (t ≤ 256) → (∀ j, j ≠ 8 → rB j = rL j) → (∀ y, y < t → rB 8 y = nI (if y = 0 then 0 else 100)) → iG wM DD dd AA s.heap h a f0 rB H locs → lv_has ls 7 [(0, .ref h), (1, .int (nI w)), (2, .int (nI (cbCnt P N))), (3, .int (nI t))] → W p l ee (rmK 4) s m args below meth cd H locs 0 0 Q (F0 m 60 ls []) := by
            intro n2
            induction n2 with
            | zero =>
              intros; exfalso; omega
            | succ n2 ih2 =>
              intro t rB H locs ls h3 h4 hrB hyB I hl
              refine lv_iload_n hx hb dX2_solve_60 rfl (lv_at hl 3 rfl) ?_
              refine lv_sipush (v := nI 256) hx hb dX2_solve_61 (by decide) ?_
              refine n_icge (tgt := 89) hx hb (by omega) (by omega) dX2_solve_64 (by decide) (fun c64 => ?_) (fun c64 => ?_)
              · have hyE : ∀ t, t < 2 ^ F → rB 8 t = nI (cbE T 0 t) := fun y hy1 => by
                  rw [hyB y (by omega)]
                  by_cases h0 : y = 0
                  · rw [h0, if_pos rfl]; unfold cbE; rw [hT, cbT_0]; rfl
                  · rw [if_neg h0, cbE_old]
                    have := cbT_pos (fun g k => cbAns L D g (cbSel P N k)) (cbSel P N) F (10 * L) N w (u := y) (by omega)
                    rw [hT]; omega
                have hB3 : ∀ j, j ≠ 6 → j ≠ 8 → rB j = r j := fun j j1 j2 => (hrB j j2).trans (hrL j j1)
                have hB6 : ∀ k, k < F → rB 6 k = nI (cbSel P N k) := fun k hk => by rw [hrB 6 (by decide)]; exact h6 k hk
                clear ih2 h3 h4 c64
                refine lv_iconst (v := nI 1) hx hb dX2_solve_89 (by decide) ?_
                refine lv_aload_n hx hb dX2_solve_90 rfl (lv_at hl 0 rfl) ?_
                refine gM_7 C I (v := nI (F)) (ef0) dX2_solve_91 ?_
                refine lv_ishl hx hb dX2_solve_94 ?_
                refine w_top (v := nI (2 ^ F)) (cb_shlD _ (by omega)) ?_
                refine lv_iconst (v := nI 1) hx hb dX2_solve_95 (by decide) ?_
                refine n_sub hx hb (by omega) dX2_solve_96 ?_
                refine lv_istore_n (lv' := [(3, .int (nI ((2 ^ F) - 1))), (0, .ref h), (1, .int (nI w)), (2, .int (nI (cbCnt P N)))]) hx hb dX2_solve_97 rfl hl (by decide) rfl (fun ls hl => ?_)
                refine lv_iconst (v := nI 1) hx hb dX2_solve_98 (by decide) ?_
                refine lv_istore (lv' := [(4, .int (nI 1)), (3, .int (nI ((2 ^ F) - 1))), (0, .ref h), (1, .int (nI w)), (2, .int (nI (cbCnt P N)))]) hx hb dX2_solve_99 hl (by decide) rfl (fun ls hl => ?_)
                have loop101 : ∀ (n3 : Nat) (q : Nat) (rE : Nat → Nat → Int32) (H : Heap) (locs : List Loc) (ls : Array Slot), (10 < q + n3) → (1 ≤ q) → (q ≤ 10) → (∀ j, j ≠ 8 → rE j = rB j) → (∀ t, t < 2 ^ F → rE 8 t = nI (cbE T (q - 1) t)) → iG wM DD dd AA s.heap h a f0 rE H locs → lv_has ls 7 [(0, .ref h), (1, .int (nI w)), (3, .int (nI (2 ^ F - 1))), (4, .int (nI q))] → W p l ee (rmK 4) s m args below meth cd H locs 0 0 Q (F0 m 101 ls []) := by
                  intro n3
                  induction n3 with
                  | zero =>
                    intros; exfalso; omega
                  | succ n3 ih3 =>
                    intro q rE H locs ls h5 h6a h7 hrE hE I hl
                    have hEl : cbE T (q - 1) (2 ^ F - 1) ≤ 100 := cbE_le hTle _ _
                    refine lv_iload hx hb dX2_solve_101 (lv_at hl 3 rfl) ?_
                    refine lv_bipush (v := nI 10) hx hb dX2_solve_103 (by decide) ?_
                    refine n_icge (tgt := 195) hx hb (by omega) (by omega) dX2_solve_105 (by decide) (fun c105 => ?_) (fun c105 => ?_)
                    · have hq10 : q = 10 := by omega
                      have hcard : T (2 ^ F - 1) ≤ F := by
                        rw [hT]
                        exact Nat.le_trans (cbT_card _ _ _ _ _ _ (by omega) (fun k hk => cbSel_lt (by rw [← hF]; exact hk)) (fun k _ => cbAns_self hD1 _) _ (by omega)) (cbCnt_le _ _)
                      have hres : cbE T (q - 1) (2 ^ F - 1) = T (2 ^ F - 1) ∧ T (2 ^ F - 1) ≤ q - 1 := by
                        have : T (2 ^ F - 1) ≤ q - 1 := by omega
                        exact ⟨if_pos this, this⟩
                      refine lv_aload_n hx hb dX2_solve_195 rfl (lv_at hl 0 rfl) ?_
                      refine gM_8 C I dX2_solve_196 ?_
                      refine lv_iload_n hx hb dX2_solve_199 rfl (lv_at hl 2 rfl) ?_
                      refine ldM_8 C I (2 ^ F - 1) (rfl) (by omega) (v := nI (cbE T (q - 1) (2 ^ F - 1))) (hE _ (by omega)) dX2_solve_200 ?_
                      exact ret _ _ _ _ _ _ _ dX2_solve_201 (rfl) I (by
                        refine ⟨Or.inr ⟨by rw [← hP, ← hF]; exact c15, ?_, ?_, ?_, q - 1, ?_, by omega, ?_⟩, sx0.keep (fun _ _ => rfl) (by rw [hrE 3 (by decide), hB3 3 (by decide) (by decide)]) (by rw [hrE 4 (by decide), hB3 4 (by decide) (by decide)]) (by rw [hrE 10 (by decide), hB3 10 (by decide) (by decide)])⟩
                        · rw [← hP, ← hF, ← hT, hres.1]
                        · rw [← hP, ← hF]; exact ef0
                        · rw [← hP, ← hF]; exact fun k hk => by rw [hrE 6 (by decide)]; exact hB6 k hk
                        · rw [← hP, ← hF, ← hT]; exact hres.2
                        · rw [← hP, ← hF, ← hT]; exact hE)
                    · refine lv_aload_n hx hb dX2_solve_108 rfl (lv_at hl 0 rfl) ?_
                      refine gM_8 C I dX2_solve_109 ?_
                      refine lv_iload_n hx hb dX2_solve_112 rfl (lv_at hl 2 rfl) ?_
                      refine ldM_8 C I (2 ^ F - 1) (rfl) (by omega) (v := nI (cbE T (q - 1) (2 ^ F - 1))) (hE _ (by omega)) dX2_solve_113 ?_
                      refine lv_bipush (v := nI 100) hx hb dX2_solve_114 (by decide) ?_
                      refine n_icne (tgt := 195) hx hb (by omega) (by omega) dX2_solve_116 (by decide) (fun c116 => ?_) (fun c116 => ?_)
                      · have hres := cbE_not c116
                        refine lv_aload_n hx hb dX2_solve_195 rfl (lv_at hl 0 rfl) ?_
                        refine gM_8 C I dX2_solve_196 ?_
                        refine lv_iload_n hx hb dX2_solve_199 rfl (lv_at hl 2 rfl) ?_
                        refine ldM_8 C I (2 ^ F - 1) (rfl) (by omega) (v := nI (cbE T (q - 1) (2 ^ F - 1))) (hE _ (by omega)) dX2_solve_200 ?_
                        exact ret _ _ _ _ _ _ _ dX2_solve_201 (rfl) I (by
                          refine ⟨Or.inr ⟨by rw [← hP, ← hF]; exact c15, ?_, ?_, ?_, q - 1, ?_, by omega, ?_⟩, sx0.keep (fun _ _ => rfl) (by rw [hrE 3 (by decide), hB3 3 (by decide) (by decide)]) (by rw [hrE 4 (by decide), hB3 4 (by decide) (by decide)]) (by rw [hrE 10 (by decide), hB3 10 (by decide) (by decide)])⟩
                          · rw [← hP, ← hF, ← hT, hres.1]
                          · rw [← hP, ← hF]; exact ef0
                          · rw [← hP, ← hF]; exact fun k hk => by rw [hrE 6 (by decide)]; exact hB6 k hk
                          · rw [← hP, ← hF, ← hT]; exact hres.2
                          · rw [← hP, ← hF, ← hT]; exact hE)
                      · refine lv_iconst (v := nI 1) hx hb dX2_solve_119 (by decide) ?_
                        refine lv_istore (lv' := [(5, .int (nI 1)), (0, .ref h), (1, .int (nI w)), (3, .int (nI (2 ^ F - 1))), (4, .int (nI q))]) hx hb dX2_solve_120 hl (by decide) rfl (fun ls hl => ?_)
                        have loop122 : ∀ (n4 : Nat) (u : Nat) (rU : Nat → Nat → Int32) (H : Heap) (locs : List Loc) (ls : Array Slot), (2 ^ F < u + n4) → (1 ≤ u) → (u ≤ 2 ^ F) → (∀ j, j ≠ 8 → rU j = rB j) → (∀ t, t < 2 ^ F → rU 8 t = nI (if t < u then cbE T q t else cbE T (q - 1) t)) → iG wM DD dd AA s.heap h a f0 rU H locs → lv_has ls 7 [(0, .ref h), (1, .int (nI w)), (3, .int (nI (2 ^ F - 1))), (4, .int (nI q)), (5, .int (nI u))] → W p l ee (rmK 4) s m args below meth cd H locs 0 0 Q (F0 m 122 ls []) := by
                          intro n4
                          induction n4 with
                          | zero =>
                            intros; exfalso; omega
                          | succ n4 ih4 =>
                            intro u rU H locs ls h8 h9 h10 hrU hU I hl
                            have hEu : cbE T (q - 1) u ≤ 100 := cbE_le hTle _ _
                            have hEq : cbE T q u ≤ 100 := cbE_le hTle _ _
                            refine lv_iload hx hb dX2_solve_122 (lv_at hl 4 rfl) ?_
                            refine lv_iload_n hx hb dX2_solve_124 rfl (lv_at hl 2 rfl) ?_
                            refine n_icgt (tgt := 189) hx hb (by omega) (by omega) dX2_solve_125 (by decide) (fun c125 => ?_) (fun c125 => ?_)
                            · refine lv_iinc (v := nI (q + 1)) (lv' := [(4, .int (nI (q + 1))), (0, .ref h), (1, .int (nI w)), (3, .int (nI (2 ^ F - 1))), (5, .int (nI u))]) hx hb dX2_solve_189 hl (k := 3) rfl (nI_1 _) (by decide) rfl (fun ls hl => ?_)
                              refine lv_goto (tgt := 101) hx hb dX2_solve_192 (by decide) ?_
                              exact ih3 (q + 1) _ _ _ _ (by omega) (by omega) (by omega) hrU (fun t ht => by rw [hU t ht, if_pos (by omega)]; rfl) I (lv_sub hl [1, 2, 3, 0] rfl)
                            · refine lv_aload_n hx hb dX2_solve_128 rfl (lv_at hl 0 rfl) ?_
                              refine gM_8 C I dX2_solve_129 ?_
                              refine lv_iload hx hb dX2_solve_132 (lv_at hl 4 rfl) ?_
                              refine ldM_8 C I (u) (rfl) (by omega) (v := nI (cbE T (q - 1) u)) (by rw [hU u (by omega), if_neg (by omega)]) dX2_solve_134 ?_
                              refine lv_bipush (v := nI 100) hx hb dX2_solve_135 (by decide) ?_
                              have join157 : ∀ (H : Heap) (locs : List Loc), iG wM DD dd AA s.heap h a f0 rU H locs → W p l ee (rmK 4) s m args below meth cd H locs 0 0 Q (F0 m 157 ls [.int (nI ((decide (cbE T (q - 1) u = 100) && decide (T u ≤ q)).toNat))]) := by
                                intro H locs I
                                refine lv_istore (lv' := [(6, .int (nI ((decide (cbE T (q - 1) u = 100) && decide (T u ≤ q)).toNat))), (0, .ref h), (1, .int (nI w)), (3, .int (nI (2 ^ F - 1))), (4, .int (nI q)), (5, .int (nI u))]) hx hb dX2_solve_157 hl (by decide) rfl (fun ls hl => ?_)
                                refine lv_aload_n hx hb dX2_solve_159 rfl (lv_at hl 1 rfl) ?_
                                refine gM_8 C I dX2_solve_160 ?_
                                refine lv_iload hx hb dX2_solve_163 (lv_at hl 5 rfl) ?_
                                refine lv_iload hx hb dX2_solve_165 (lv_at hl 0 rfl) ?_
                                have join182 : W p l ee (rmK 4) s m args below meth cd H locs 0 0 Q (F0 m 182 ls [.int (nI (cbE T q u)), .int (nI u), .ref (a 8)]) := by
                                  refine stM_8 C I (u) (rfl) (by omega) dX2_solve_182 (fun H locs rF erF orF I => ?_)
                                  refine lv_iinc (v := nI (u + 1)) (lv' := [(5, .int (nI (u + 1))), (6, .int (nI ((decide (cbE T (q - 1) u = 100) && decide (T u ≤ q)).toNat))), (0, .ref h), (1, .int (nI w)), (3, .int (nI (2 ^ F - 1))), (4, .int (nI q))]) hx hb dX2_solve_183 hl (k := 5) rfl (nI_1 _) (by decide) rfl (fun ls hl => ?_)
                                  refine lv_goto (tgt := 122) hx hb dX2_solve_186 (by decide) ?_
                                  refine ih4 (u + 1) _ _ _ _ (by omega) (by omega) (by omega) (fun j hj => (orF j hj).trans (hrU j hj)) ?_ I (lv_sub hl [2, 3, 4, 5, 0] rfl)
                                  intro t ht
                                  rw [erF]
                                  by_cases he : t = u
                                  · subst he
                                    rw [pk_us, if_pos (show t < t + 1 by omega)]
                                  · rw [pk_un he, hU t ht]
                                    by_cases hlt : t < u
                                    · rw [if_pos hlt, if_pos (show t < u + 1 by omega)]
                                    · rw [if_neg hlt, if_neg (show ¬ t < u + 1 by omega)]
                                refine n_ifeq (tgt := 175) hx hb (Nat.lt_of_le_of_lt (Bool.toNat_le _) (by decide)) dX2_solve_167 (by decide) (fun c167 => ?_) (fun c167 => ?_)
                                · refine lv_aload_n hx hb dX2_solve_175 rfl (lv_at hl 1 rfl) ?_
                                  refine gM_8 C I dX2_solve_176 ?_
                                  refine lv_iload hx hb dX2_solve_179 (lv_at hl 5 rfl) ?_
                                  refine ldM_8 C I (u) (rfl) (by omega) (v := nI (cbE T (q - 1) u)) (by rw [hU u (by omega), if_neg (by omega)]) dX2_solve_181 ?_
                                  refine w_top (v := nI (cbE T q u)) (cb_e1 (by omega) (by omega) (hTle u) c167) ?_
                                  exact join182
                                · refine lv_iload hx hb dX2_solve_170 (lv_at hl 4 rfl) ?_
                                  refine lv_goto (tgt := 182) hx hb dX2_solve_172 (by decide) ?_
                                  refine w_top (v := nI (cbE T q u)) (cb_e2 (by omega) (by omega) c167) ?_
                                  exact join182
                              refine n_icne (tgt := 156) hx hb (by omega) (by omega) dX2_solve_137 (by decide) (fun c137 => ?_) (fun c137 => ?_)
                              · refine lv_iconst (v := nI 0) hx hb dX2_solve_156 (by decide) ?_
                                refine w_top (v := nI ((decide (cbE T (q - 1) u = 100) && decide (T u ≤ q)).toNat)) (by rw [decide_eq_false c137]; rfl) ?_
                                exact join157 _ _ I
                              · refine lv_aload_n hx hb dX2_solve_140 rfl (lv_at hl 0 rfl) ?_
                                refine lv_iload hx hb dX2_solve_141 (lv_at hl 4 rfl) ?_
                                refine lv_iload hx hb dX2_solve_143 (lv_at hl 3 rfl) ?_
                                refine lv_iload_n hx hb dX2_solve_145 rfl (lv_at hl 1 rfl) ?_
                                refine mG_call (q := (RX2, TX2, 11)) (ci := 1) C I (metM_canBeDone l DD dd h a f0 rU (cbSel P N) (fun t => if t < u then cbE T q t else cbE T (q - 1) t) u q w hL4 hD1 hN81 (by rw [hrU 10 (by decide), hB3 10 (by decide) (by decide)]; exact tb) ef0 c15 (fun k hk => ⟨by rw [hrU 6 (by decide)]; exact hB6 k hk, cbSel_lt (by rw [← hF]; exact hk)⟩) sx0.1.2.1 sx0.1.2.2.2 (by omega) (by omega) (by omega) hw (fun t ht => ⟨hU t (by omega), by show (if t < u then cbE T q t else cbE T (q - 1) t) ≤ 100; split <;> exact cbE_le hTle _ _⟩)) ⟨_, rfl⟩ rfl cwM_McanBeDone cdM_canBeDone ⟨Nat.le_of_ble_eq_true rfl, Nat.le_of_ble_eq_true rfl⟩ ⟨rfl, rfl⟩ rfl hl.1 (Nat.le_of_ble_eq_true rfl) dX2_solve_146 ⟨Nat.zero_le _, Nat.zero_le _⟩ rfl (fun v2 f2 r2 H locs hp2 I => ?_)
                                obtain ⟨ev2, ef2, er2⟩ := hp2
                                subst ev2
                                rw [ef2, er2] at I
                                refine w_top (v := nI ((decide (T u ≤ q)).toNat)) (by rw [cb_round (A := fun g k => cbAns L D g (cbSel P N k)) hT (by omega) (by omega) (by omega) (fun t ht => if_pos ht) (by show (if u < u then _ else _) = _; rw [if_neg (by omega)]; exact c137) (cbE_100 (by omega) c137)]) ?_
                                refine n_ifeq (tgt := 156) hx hb (Nat.lt_of_le_of_lt (Bool.toNat_le _) (by decide)) dX2_solve_149 (by decide) (fun c149 => ?_) (fun c149 => ?_)
                                · refine lv_iconst (v := nI 0) hx hb dX2_solve_156 (by decide) ?_
                                  refine w_top (v := nI ((decide (cbE T (q - 1) u = 100) && decide (T u ≤ q)).toNat)) (by rw [decide_eq_true c137, Bool.true_and, c149]) ?_
                                  exact join157 _ _ I
                                · refine lv_iconst (v := nI 1) hx hb dX2_solve_152 (by decide) ?_
                                  refine lv_goto (tgt := 157) hx hb dX2_solve_153 (by decide) ?_
                                  refine w_top (v := nI ((decide (cbE T (q - 1) u = 100) && decide (T u ≤ q)).toNat)) (by rw [decide_eq_true c137, Bool.true_and]; exact congrArg nI (cb_b1 c149).symm) ?_
                                  exact join157 _ _ I
                        exact loop122 (2 ^ F + 1) 1 _ _ _ _ (by omega) (by omega) (by omega) hrE (fun t ht => by
                          rw [hE t ht]
                          by_cases h0 : t < 1
                          · rw [if_pos h0, show t = 0 by omega]
                            unfold cbE; rw [hT, cbT_0, if_pos (by omega), if_pos (by omega)]
                          · rw [if_neg h0]) I (lv_sub hl [1, 2, 3, 4, 0] rfl)
                exact loop101 10 1 _ _ _ _ (by omega) (by omega) (by omega) (fun _ _ => rfl) hyE I (lv_sub hl [2, 3, 1, 0] rfl)
              · refine lv_aload_n hx hb dX2_solve_67 rfl (lv_at hl 0 rfl) ?_
                refine gM_8 C I dX2_solve_68 ?_
                refine lv_iload_n hx hb dX2_solve_71 rfl (lv_at hl 3 rfl) ?_
                refine lv_iload_n hx hb dX2_solve_72 rfl (lv_at hl 3 rfl) ?_
                have join82 : W p l ee (rmK 4) s m args below meth cd H locs 0 0 Q (F0 m 82 ls [.int (nI (if t = 0 then 0 else 100)), .int (nI t), .ref (a 8)]) := by
                  refine stM_8 C I (t) (rfl) (by omega) dX2_solve_82 (fun H locs rC erC orC I => ?_)
                  refine lv_iinc (v := nI (t + 1)) (lv' := [(3, .int (nI (t + 1))), (0, .ref h), (1, .int (nI w)), (2, .int (nI (cbCnt P N)))]) hx hb dX2_solve_83 hl (k := 3) rfl (nI_1 _) (by decide) rfl (fun ls hl => ?_)
                  refine lv_goto (tgt := 60) hx hb dX2_solve_86 (by decide) ?_
                  refine ih2 (t + 1) _ _ _ _ (by omega) (by omega) (fun j hj => (orC j hj).trans (hrB j hj)) ?_ I (lv_sub hl [1, 2, 3, 0] rfl)
                  intro y hy1
                  rw [erC]
                  by_cases he : y = t
                  · subst he
                    rw [pk_us]
                  · rw [pk_un he]; exact hyB y (by omega)
                refine n_ifne (tgt := 80) hx hb (by omega) dX2_solve_73 (by decide) (fun c73 => ?_) (fun c73 => ?_)
                · refine lv_bipush (v := nI 100) hx hb dX2_solve_80 (by decide) ?_
                  refine w_top (v := nI (if t = 0 then 0 else 100)) (by rw [if_neg c73]) ?_
                  exact join82
                · refine lv_iconst (v := nI 0) hx hb dX2_solve_76 (by decide) ?_
                  refine lv_goto (tgt := 82) hx hb dX2_solve_77 (by decide) ?_
                  refine w_top (v := nI (if t = 0 then 0 else 100)) (by rw [if_pos c73]) ?_
                  exact join82
          exact loop60 257 0 _ _ _ _ (by omega) (by omega) (fun _ _ => rfl) (fun y hy1 => absurd hy1 (Nat.not_lt_zero y)) I (lv_sub hl [1, 2, 3, 0] rfl)
        · refine lv_aload_n hx hb dX2_solve_33 rfl (lv_at hl 0 rfl) ?_
          refine lv_iload_n hx hb dX2_solve_34 rfl (lv_at hl 3 rfl) ?_
          refine lv_iconst (v := -1) hx hb dX2_solve_35 (by decide) ?_
          refine mG_call (q := (RX2, TX2, 11)) (ci := 1) C I (metM_agrees1 l DD dd h a f0 rL x sxL c30) ⟨_, rfl⟩ rfl cwM_Magrees cdM_agrees ⟨Nat.le_of_ble_eq_true rfl, Nat.le_of_ble_eq_true rfl⟩ ⟨rfl, rfl⟩ rfl hl.1 (Nat.le_of_ble_eq_true rfl) dX2_solve_36 ⟨Nat.zero_le _, Nat.zero_le _⟩ rfl (fun v3 f3 r3 H locs hp3 I => ?_)
          obtain ⟨ev3, ef3, er3⟩ := hp3
          subst ev3
          rw [ef3, er3] at I
          refine n_ifeq (tgt := 52) hx hb (Nat.lt_of_le_of_lt (Bool.toNat_le _) (by decide)) dX2_solve_39 (by decide) (fun c39 => ?_) (fun c39 => ?_)
          · have hp : P x = false := by rw [hP]; cases hc : cbPos L D G B c x <;> simp_all
            have hn1 := hrL
            have hn2 : ∀ k, k < cbCnt P (x + 1) → rL 6 k = nI (cbSel P (x + 1) k) := fun k hk => by
              rw [cbCnt_f hp] at hk
              rw [cbSel_old hk]; exact h6 k hk
            rw [← cbCnt_f hp] at hl
            refine lv_iinc (v := nI (x + 1)) (lv' := [(3, .int (nI (x + 1))), (0, .ref h), (1, .int (nI w)), (2, .int (nI (cbCnt P (x + 1))))]) hx hb dX2_solve_52 hl (k := 3) rfl (nI_1 _) (by decide) rfl (fun ls hl => ?_)
            refine lv_goto (tgt := 25) hx hb dX2_solve_55 (by decide) ?_
            exact ih (x + 1) _ _ _ _ (by omega) (by omega) hn1 hn2 I (lv_sub hl [1, 2, 3, 0] rfl)
          · have hp : P x = true := by rw [hP]; cases hc : cbPos L D G B c x <;> simp_all
            have hcx : cbCnt P (x + 1) ≤ F := by rw [hF]; exact cbCnt_mono P (by omega)
            rw [cbCnt_t hp] at hcx
            refine lv_aload_n hx hb dX2_solve_42 rfl (lv_at hl 0 rfl) ?_
            refine gM_6 C I dX2_solve_43 ?_
            refine lv_iload_n hx hb dX2_solve_46 rfl (lv_at hl 2 rfl) ?_
            refine lv_iload_n hx hb dX2_solve_47 rfl (lv_at hl 3 rfl) ?_
            refine stM_6 C I (cbCnt P x) (rfl) (by omega) dX2_solve_48 (fun H locs rA erA orA I => ?_)
            have hn1 : ∀ j, j ≠ 6 → rA j = r j := fun j hj => (orA j hj).trans (hrL j hj)
            have hn2 : ∀ k, k < cbCnt P (x + 1) → rA 6 k = nI (cbSel P (x + 1) k) := fun k hk => by
              rw [cbCnt_t hp] at hk
              rw [erA]
              by_cases hkx : k = cbCnt P x
              · subst hkx
                rw [pk_us, cbSel_new hp]
              · rw [pk_un hkx, cbSel_old (by omega)]; exact h6 k (by omega)
            refine lv_iinc (v := nI (cbCnt P (x + 1))) (lv' := [(2, .int (nI (cbCnt P (x + 1)))), (0, .ref h), (1, .int (nI w)), (3, .int (nI x))]) hx hb dX2_solve_49 hl (k := 2) rfl (by rw [cbCnt_t hp]; exact nI_1 _) (by decide) rfl (fun ls hl => ?_)
            refine lv_iinc (v := nI (x + 1)) (lv' := [(3, .int (nI (x + 1))), (2, .int (nI (cbCnt P (x + 1)))), (0, .ref h), (1, .int (nI w))]) hx hb dX2_solve_52 hl (k := 3) rfl (nI_1 _) (by decide) rfl (fun ls hl => ?_)
            refine lv_goto (tgt := 25) hx hb dX2_solve_55 (by decide) ?_
            exact ih (x + 1) _ _ _ _ (by omega) (by omega) hn1 hn2 I (lv_sub hl [2, 3, 1, 0] rfl)
    exact loop25 (N + 1) 0 _ _ _ _ (by omega) (by omega) (fun _ _ => rfl) (fun k hk => absurd hk (Nat.not_lt_zero k)) I (lv_sub hl [2, 3, 1, 0] rfl)
  · refine lv_bipush (v := -4) hx hb dX2_solve_18 (by decide) ?_
    exact ret _ _ _ _ _ _ _ dX2_solve_20 (rfl) I (⟨Or.inl ⟨rfl, by rw [← hP, ← hF]; exact c15⟩, sx0⟩)
set_option maxHeartbeats 4000000 in
set_option maxRecDepth 100000 in
theorem metM_need (l : Launch) (DD : va_G) (dd : ClassId) (h : Nat) (a : Nat → Nat) (f : Nat → Int32) (r : Nat → Nat → Int32) {L D N c : Nat} {G B : Nat → Nat} (sx : stM L D N c G B f r) : mG l wM yX2_need cX2_need 1 .int (rmK 5) DD dd h a f r [] (fun v f' r' => (v = -4 ∧ 8 < cbCnt (cbPos L D G B c) N ∨ cbCnt (cbPos L D G B c) N ≤ 8 ∧ v = nI ((cbT (fun g k => cbAns L D g (cbSel (cbPos L D G B c) N k)) (cbSel (cbPos L D G B c) N) (cbCnt (cbPos L D G B c) N) (10 * L) N 0) (2 ^ cbCnt (cbPos L D G B c) N - 1))) ∧ stM L D N c G B f' r') := by
  refine mG_start (by decide) (Nat.le_of_ble_eq_true rfl) ?_
  intro p ee s m args below meth cd AA Q ls C I hl ret
  have hx := C.1
  have hb := C.2.1
  have hl : lv_has ls 1 [(0, .ref h)] := hl
  refine lv_aload_n hx hb dX2_need_0 rfl (lv_at hl 0 rfl) ?_
  refine lv_iconst (v := nI 0) hx hb dX2_need_1 (by decide) ?_
  refine mG_call (q := (RX2, TX2, 11)) (ci := 1) C I (metM_solve l DD dd h a f r 0 sx (by decide)) ⟨_, rfl⟩ rfl cwM_Msolve cdM_solve ⟨Nat.le_of_ble_eq_true rfl, Nat.le_of_ble_eq_true rfl⟩ ⟨rfl, rfl⟩ rfl hl.1 (Nat.le_of_ble_eq_true rfl) dX2_need_2 ⟨Nat.zero_le _, Nat.zero_le _⟩ rfl (fun vZ fZ rZ H locs hpZ I => ?_)
  exact ret _ _ _ _ _ _ _ dX2_need_5 (rfl) I (⟨hpZ.1.elim Or.inl (fun q => Or.inr ⟨q.1, q.2.1⟩), hpZ.2⟩)
set_option maxHeartbeats 4000000 in
set_option maxRecDepth 100000 in
theorem metM_needKept (l : Launch) (DD : va_G) (dd : ClassId) (h : Nat) (a : Nat → Nat) (f : Nat → Int32) (r : Nat → Nat → Int32) {L D N c : Nat} {G B : Nat → Nat} (sx : stM L D N c G B f r) : mG l wM yX2_needKept cX2_needKept 1 .int (rmK 5) DD dd h a f r [] (fun v f' r' => (v = -4 ∧ 8 < cbCnt (cbPos L D G B c) N ∨ cbCnt (cbPos L D G B c) N ≤ 8 ∧ v = nI ((cbT (fun g k => cbAns L D g (cbSel (cbPos L D G B c) N k)) (cbSel (cbPos L D G B c) N) (cbCnt (cbPos L D G B c) N) (10 * L) N 1) (2 ^ cbCnt (cbPos L D G B c) N - 1))) ∧ stM L D N c G B f' r') := by
  refine mG_start (by decide) (Nat.le_of_ble_eq_true rfl) ?_
  intro p ee s m args below meth cd AA Q ls C I hl ret
  have hx := C.1
  have hb := C.2.1
  have hl : lv_has ls 1 [(0, .ref h)] := hl
  refine lv_aload_n hx hb dX2_needKept_0 rfl (lv_at hl 0 rfl) ?_
  refine lv_iconst (v := nI 1) hx hb dX2_needKept_1 (by decide) ?_
  refine mG_call (q := (RX2, TX2, 11)) (ci := 1) C I (metM_solve l DD dd h a f r 1 sx (by decide)) ⟨_, rfl⟩ rfl cwM_Msolve cdM_solve ⟨Nat.le_of_ble_eq_true rfl, Nat.le_of_ble_eq_true rfl⟩ ⟨rfl, rfl⟩ rfl hl.1 (Nat.le_of_ble_eq_true rfl) dX2_needKept_2 ⟨Nat.zero_le _, Nat.zero_le _⟩ rfl (fun vZ fZ rZ H locs hpZ I => ?_)
  exact ret _ _ _ _ _ _ _ dX2_needKept_5 (rfl) I (⟨hpZ.1.elim Or.inl (fun q => Or.inr ⟨q.1, q.2.1⟩), hpZ.2⟩)
end
section
set_option maxRecDepth 100000
set_option maxHeartbeats 4000000 in
set_option maxRecDepth 100000 in
theorem metM_first (l : Launch) (DD : va_G) (dd : ClassId) (h : Nat) (a : Nat → Nat) (f : Nat → Int32) (r : Nat → Nat → Int32) {L D N c : Nat} {G B : Nat → Nat} (sx : stM L D N c G B f r) : mG l wM yX2_first cX2_first 3 .int (rmK 5) DD dd h a f r [] (fun v f' r' => (v = -4 ∧ 8 < cbCnt (cbPos L D G B c) N ∨ cbCnt (cbPos L D G B c) N ≤ 8 ∧ ((cbT (fun g k => cbAns L D g (cbSel (cbPos L D G B c) N k)) (cbSel (cbPos L D G B c) N) (cbCnt (cbPos L D G B c) N) (10 * L) N 0) (2 ^ cbCnt (cbPos L D G B c) N - 1) = 0 ∧ v = -3 ∨ 0 < (cbT (fun g k => cbAns L D g (cbSel (cbPos L D G B c) N k)) (cbSel (cbPos L D G B c) N) (cbCnt (cbPos L D G B c) N) (10 * L) N 0) (2 ^ cbCnt (cbPos L D G B c) N - 1) ∧ v = cbFind (fun g => decide (cbNW (fun k => cbAns L D g (cbSel (cbPos L D G B c) N k)) (cbCnt (cbPos L D G B c) N) (10 * L) (cbT (fun g k => cbAns L D g (cbSel (cbPos L D G B c) N k)) (cbSel (cbPos L D G B c) N) (cbCnt (cbPos L D G B c) N) (10 * L) N 0) (2 ^ cbCnt (cbPos L D G B c) N - 1) = (cbT (fun g k => cbAns L D g (cbSel (cbPos L D G B c) N k)) (cbSel (cbPos L D G B c) N) (cbCnt (cbPos L D G B c) N) (10 * L) N 0) (2 ^ cbCnt (cbPos L D G B c) N - 1))) N 0)) ∧ stM L D N c G B f' r') := by
  refine mG_start (by decide) (Nat.le_of_ble_eq_true rfl) ?_
  intro p ee s m args below meth cd AA Q ls C I hl ret
  have hx := C.1
  have hb := C.2.1
  have hl : lv_has ls 3 [(0, .ref h)] := hl
  have gm := sx.1
  obtain ⟨hL1, hL4, hD1, hD3, hN1, hN81, hNe⟩ := gm.1
  have tb := sx.2.1
  have hc8 := sx.2.2.1
  have hf5 := sx.2.2.2.1
  have hGB := sx.2.2.2.2
  refine lv_aload_n hx hb dX2_first_0 rfl (lv_at hl 0 rfl) ?_
  refine lv_iconst (v := nI 0) hx hb dX2_first_1 (by decide) ?_
  refine mG_call (q := (RX2, TX2, 11)) (ci := 1) C I (metM_solve l DD dd h a f r 0 sx (by decide)) ⟨_, rfl⟩ rfl cwM_Msolve cdM_solve ⟨Nat.le_of_ble_eq_true rfl, Nat.le_of_ble_eq_true rfl⟩ ⟨rfl, rfl⟩ rfl hl.1 (Nat.le_of_ble_eq_true rfl) dX2_first_2 ⟨Nat.zero_le _, Nat.zero_le _⟩ rfl (fun vZ fZ rZ H locs hpZ I => ?_)
  obtain ⟨hz, sxZ⟩ := hpZ
  refine lv_istore_n (lv' := [(1, .int (vZ)), (0, .ref h)]) hx hb dX2_first_5 rfl hl (by decide) rfl (fun ls hl => ?_)
  refine lv_iload_n hx hb dX2_first_6 rfl (lv_at hl 0 rfl) ?_
  refine lv_if_gt (tgt := 22) hx hb dX2_first_7 (by decide) (fun c7 => ?_) (fun c7 => ?_)
  · obtain ⟨S, hS⟩ : ∃ S, S = cbSel (cbPos L D G B c) N := ⟨_, rfl⟩
    obtain ⟨F, hF⟩ : ∃ F, F = cbCnt (cbPos L D G B c) N := ⟨_, rfl⟩
    obtain ⟨T, hT⟩ : ∃ T, T = (cbT (fun g k => cbAns L D g (cbSel (cbPos L D G B c) N k)) (cbSel (cbPos L D G B c) N) (cbCnt (cbPos L D G B c) N) (10 * L) N 0) := ⟨_, rfl⟩
    rw [← hT, ← hF] at hz
    have hz2 : F ≤ 8 ∧ vZ = nI (T (2 ^ F - 1)) ∧ fZ 7 = nI F ∧ (∀ k, k < F → rZ 6 k = nI (cbSel (cbPos L D G B c) N k)) ∧ ∃ mm, T (2 ^ F - 1) ≤ mm ∧ mm ≤ 9 ∧ ∀ t, t < 2 ^ F → rZ 8 t = nI (cbE T mm t) := by
      rcases hz with ⟨q, -⟩ | q
      · rw [q] at c7; exact absurd c7 (by decide)
      · exact q
    obtain ⟨hF8, rfl, z7, z6, mm, zm, zm9, z8⟩ := hz2
    have hT0 : 0 < T (2 ^ F - 1) := by
      rcases Nat.eq_zero_or_pos (T (2 ^ F - 1)) with q | q
      · rw [q] at c7; exact absurd c7 (by decide)
      · exact q
    have hTle : ∀ t, T t ≤ 100 := fun t => by rw [hT]; exact cbT_le _ _ _ _ _ _ _
    have h2F := cb_pow8 hF8
    have h2p : 1 ≤ 2 ^ F := Nat.one_le_two_pow
    have hu1 : 1 ≤ 2 ^ F - 1 := by
      rcases Nat.eq_zero_or_pos (2 ^ F - 1) with q | q
      · rw [q, hT, cbT_0] at hT0; omega
      · exact q
    have hT2 := hT
    rw [← hF] at hT2
    obtain ⟨K, hK⟩ : ∃ K : Nat → Bool, K = (fun g => decide (cbNW (fun k => cbAns L D g (cbSel (cbPos L D G B c) N k)) F (10 * L) T (2 ^ F - 1) = T (2 ^ F - 1))) := ⟨_, rfl⟩
    obtain ⟨res, hres⟩ : ∃ z, z = cbFind K N 0 := ⟨_, rfl⟩
    have hKlv : ∀ g, g < N → cbLv (fun k => cbAns L D g (cbSel (cbPos L D G B c) N k)) F (10 * L) (cbE T mm) (2 ^ F - 1) (T (2 ^ F - 1) - 1) = K g := fun g hg => by
      rw [hK]
      exact cb_first (A := fun g k => cbAns L D g (cbSel (cbPos L D G B c) N k)) hT2 hu1 zm (by omega) (fun _ _ => rfl) hg
    obtain ⟨g0, hg0, hKg0⟩ : ∃ g0, g0 < N ∧ K g0 = true := by
      obtain ⟨g, g1, g2⟩ := cb_first_ex (A := fun g k => cbAns L D g (cbSel (cbPos L D G B c) N k)) hT2 hu1 (by omega)
      refine ⟨g, g1, ?_⟩
      rw [← hKlv g g1]
      refine (cbLv_iff (T := T) (by omega) (fun t ht => ?_) ?_).mpr (by omega)
      · unfold cbE; split <;> omega
      · unfold cbE; rw [if_pos zm]; omega
    refine lv_iconst (v := nI 0) hx hb dX2_first_22 (by decide) ?_
    refine lv_istore_n (lv' := [(2, .int (nI 0)), (1, .int (nI (T (2 ^ F - 1)))), (0, .ref h)]) hx hb dX2_first_23 rfl hl (by decide) rfl (fun ls hl => ?_)
    have loop24 : ∀ (n : Nat) (g : Nat) (H : Heap) (locs : List Loc) (ls : Array Slot), (N < g + n) → (g ≤ N) → (∀ j, j < g → K j = false) → (cbFind K (N - g) g = res) → iG wM DD dd AA s.heap h a fZ rZ H locs → lv_has ls 3 [(0, .ref h), (1, .int (nI (T (2 ^ F - 1)))), (2, .int (nI g))] → W p l ee (rmK 5) s m args below meth cd H locs 0 0 Q (F0 m 24 ls []) := by
      intro n
      induction n with
      | zero =>
        intros; exfalso; omega
      | succ n ih =>
        intro g H locs ls h1 h2 hlow h3 I hl
        have hgN : g < N := by
          rcases Nat.lt_or_ge g0 g with z | z
          · rw [hlow g0 z] at hKg0; cases hKg0
          · omega
        have eN : N - g = (N - (g + 1)) + 1 := by omega
        rw [eN] at h3
        refine lv_aload_n hx hb dX2_first_24 rfl (lv_at hl 0 rfl) ?_
        refine lv_iconst (v := nI 1) hx hb dX2_first_25 (by decide) ?_
        refine lv_aload_n hx hb dX2_first_26 rfl (lv_at hl 0 rfl) ?_
        refine gM_7 C I (v := nI (F)) (z7) dX2_first_27 ?_
        refine lv_ishl hx hb dX2_first_30 ?_
        refine w_top (v := nI (2 ^ F)) (cb_shlD _ (by omega)) ?_
        refine lv_iconst (v := nI 1) hx hb dX2_first_31 (by decide) ?_
        refine n_sub hx hb (by omega) dX2_first_32 ?_
        refine lv_iload_n hx hb dX2_first_33 rfl (lv_at hl 2 rfl) ?_
        refine lv_iload_n hx hb dX2_first_34 rfl (lv_at hl 1 rfl) ?_
        refine lv_iconst (v := nI 1) hx hb dX2_first_35 (by decide) ?_
        refine n_sub hx hb (by omega) dX2_first_36 ?_
        refine mG_call (q := (RX2, TX2, 11)) (ci := 1) C I (metM_leaves l DD dd h a fZ rZ (cbSel (cbPos L D G B c) N) (cbE T mm) (2 ^ F - 1) g (T (2 ^ F - 1) - 1) hL4 hD1 hN81 sxZ.2.1 z7 hF8 (fun k hk => ⟨z6 k hk, cbSel_lt (by rw [← hF]; exact hk)⟩) sxZ.1.2.1 (by omega) hgN (by omega) (fun t ht => ⟨z8 t (by omega), cbE_le hTle _ _⟩)) ⟨_, rfl⟩ rfl cwM_Mleaves cdM_leaves ⟨Nat.le_of_ble_eq_true rfl, Nat.le_of_ble_eq_true rfl⟩ ⟨rfl, rfl⟩ rfl hl.1 (Nat.le_of_ble_eq_true rfl) dX2_first_37 ⟨Nat.zero_le _, Nat.zero_le _⟩ rfl (fun v1 f1 r1 H locs hp1 I => ?_)
        obtain ⟨ev1, ef1, er1⟩ := hp1
        subst ev1
        rw [ef1, er1] at I
        refine w_top (v := nI ((K g).toNat)) (by rw [hKlv g hgN]) ?_
        refine n_ifne (tgt := 49) hx hb (Nat.lt_of_le_of_lt (Bool.toNat_le _) (by decide)) dX2_first_40 (by decide) (fun c40 => ?_) (fun c40 => ?_)
        · have hKg : K g = true := by cases hc : K g <;> simp_all
          refine lv_iload_n hx hb dX2_first_49 rfl (lv_at hl 2 rfl) ?_
          exact ret _ _ _ _ _ _ _ dX2_first_50 (rfl) I (by
            refine ⟨Or.inr ⟨by rw [← hF]; exact hF8, Or.inr ⟨by rw [← hT, ← hF]; exact hT0, ?_⟩⟩, sxZ⟩
            rw [← hT, ← hF, ← hK, ← hres, ← h3, cbFind_t hKg])
        · have hKg : K g = false := by cases hc : K g <;> simp_all
          refine lv_iinc (v := nI (g + 1)) (lv' := [(2, .int (nI (g + 1))), (0, .ref h), (1, .int (nI (T (2 ^ F - 1))))]) hx hb dX2_first_43 hl (k := 2) rfl (nI_1 _) (by decide) rfl (fun ls hl => ?_)
          refine lv_goto (tgt := 24) hx hb dX2_first_46 (by decide) ?_
          exact ih (g + 1) _ _ _ (by omega) (by omega) (fun j hj => by
            by_cases hjg : j = g
            · rw [hjg]; exact hKg
            · exact hlow j (by omega)) (by rw [← h3, cbFind_f hKg]) I (lv_sub hl [1, 2, 0] rfl)
    exact loop24 (N + 1) 0 _ _ _ (by omega) (by omega) (fun j hj => absurd hj (Nat.not_lt_zero j)) hres.symm I (lv_sub hl [2, 1, 0] rfl)
  · refine lv_iload_n hx hb dX2_first_10 rfl (lv_at hl 0 rfl) ?_
    refine lv_if_ne (tgt := 19) hx hb dX2_first_11 (by decide) (fun c11 => ?_) (fun c11 => ?_)
    · have hq : 8 < cbCnt (cbPos L D G B c) N := by
        rcases hz with q | ⟨-, q, -⟩
        · exact q.2
        · rw [q] at c7 c11
          have := cbT_le (fun g k => cbAns L D g (cbSel (cbPos L D G B c) N k)) (cbSel (cbPos L D G B c) N) (cbCnt (cbPos L D G B c) N) (10 * L) N 0 (2 ^ cbCnt (cbPos L D G B c) N - 1)
          exact absurd (nI_lt (a := 0) (Nat.pos_of_ne_zero (fun z => c11 (by rw [z]; rfl))) (by omega)) c7
      refine lv_bipush (v := -4) hx hb dX2_first_19 (by decide) ?_
      exact ret _ _ _ _ _ _ _ dX2_first_21 (rfl) I (by first | exact ⟨Or.inl ⟨rfl, hq⟩, sxZ⟩ | exact ⟨Or.inr ⟨hq.1, Or.inl ⟨hq.2, rfl⟩⟩, sxZ⟩)
    · have hq : cbCnt (cbPos L D G B c) N ≤ 8 ∧ (cbT (fun g k => cbAns L D g (cbSel (cbPos L D G B c) N k)) (cbSel (cbPos L D G B c) N) (cbCnt (cbPos L D G B c) N) (10 * L) N 0) (2 ^ cbCnt (cbPos L D G B c) N - 1) = 0 := by
        rcases hz with ⟨q, -⟩ | ⟨q1, q, -⟩
        · rw [q] at c11; exact absurd c11 (by decide)
        · rw [q] at c11
          have := cbT_le (fun g k => cbAns L D g (cbSel (cbPos L D G B c) N k)) (cbSel (cbPos L D G B c) N) (cbCnt (cbPos L D G B c) N) (10 * L) N 0 (2 ^ cbCnt (cbPos L D G B c) N - 1)
          exact ⟨q1, (nI_eq (b := 0) (by omega) (by decide)).mp c11⟩
      refine lv_bipush (v := -3) hx hb dX2_first_14 (by decide) ?_
      refine lv_goto (tgt := 21) hx hb dX2_first_16 (by decide) ?_
      exact ret _ _ _ _ _ _ _ dX2_first_21 (rfl) I (by first | exact ⟨Or.inl ⟨rfl, hq⟩, sxZ⟩ | exact ⟨Or.inr ⟨hq.1, Or.inl ⟨hq.2, rfl⟩⟩, sxZ⟩)
end
section
set_option maxRecDepth 100000
abbrev rmX : Room := { frames := 1, cells := 10, slots := 1666, locals := 30 }
/-- a fresh object -/
def wX0 (h : Nat) : va_W := [(h, .inr (0, [.int 0, .int 0, .int 0, .null, .null, .int 0, .null, .null, .null, .null, .int 0, .int 0, .int 0, .int 0, .null, .null, .null, .null]))]
set_option maxHeartbeats 4000000 in
set_option maxRecDepth 100000 in
theorem initX_B {p : Program} {l : Launch} {ee : Env} {s : State} {m : MethodId} {args : Array Value} {below : List Frame} {meth : Method} {cd : Code} {DD : va_G} {dd : ClassId} {AA : Nat → Prop} {h : Nat} {a : Nat → Nat} {Q : State → Prop} {H : Heap} {locs : List Loc} {ls : Array Slot} (x y : Int32) (C : kC p s m args meth cd cX1_init 8 RX1 DD dd AA) (hin : meth.name = "<init>") (I : iG wX DD dd AA s.heap h a (fun _ => 0) (fun _ _ => 0) H locs) (hl : lv_has ls 8 [(0, .ref h), (1, .int x), (2, .int y)])
    (ret : ∀ (f' : Nat → Int32) (r' : Nat → Nat → Int32) (H : Heap) (locs : List Loc) (pc : Nat) (ls : Array Slot), decode cX1_init pc = .ok (.return_, 1) → iG wX DD dd AA s.heap h a f' r' H locs → stX (cbClamp 4 x) (cbClamp 3 y) (cbClamp 3 y ^ cbClamp 4 x) 0 (fun _ => 0) (fun _ => 0) f' r' → W p l ee rmX s m args below meth cd H locs 10 1666 Q (F0 m pc ls [])) : W p l ee rmX s m args below meth cd H locs 10 1666 Q (F0 m 88 ls []) := by
  have hx := C.1
  have hb := C.2.1
  obtain ⟨f, hf⟩ : ∃ f : Nat → Int32, f = fun _ => 0 := ⟨_, rfl⟩
  obtain ⟨r, hr⟩ : ∃ r : Nat → Nat → Int32, r = fun _ _ => 0 := ⟨_, rfl⟩
  obtain ⟨L, hL⟩ : ∃ L, L = cbClamp 4 x := ⟨_, rfl⟩
  obtain ⟨D, hD⟩ : ∃ D, D = cbClamp 3 y := ⟨_, rfl⟩
  rw [← hL, ← hD] at ret
  rw [← hr, ← hf] at I
  obtain ⟨hL1, hL4⟩ : 1 ≤ L ∧ L ≤ 4 := by rw [hL]; exact cbClamp_in (by decide) (by decide) x
  obtain ⟨hD1, hD3⟩ : 1 ≤ D ∧ D ≤ 3 := by rw [hD]; exact cbClamp_in (by decide) (by decide) y
  have hN81 : D ^ L ≤ 81 := cbPow_le D hD3 L hL4
  have hN1 : 1 ≤ D ^ L := Nat.one_le_pow _ _ hD1
  have hPle : ∀ i, i ≤ L → D ^ i ≤ 81 := fun i hi => cbPow_le D hD3 i (by omega)
  refine lv_aload_n hx hb dX1_init_88 rfl (lv_at hl 0 rfl) ?_
  refine lv_iload_n hx hb dX1_init_89 rfl (lv_at hl 1 rfl) ?_
  refine lv_iconst (v := nI 1) hx hb dX1_init_90 (by decide) ?_
  have join108 : W p l ee rmX s m args below meth cd H locs 10 1666 Q (F0 m 108 ls [.int (nI L), .ref h]) := by
    refine pX_0 C I hin dX1_init_108 (fun H locs fA efA ofA I => ?_)
    refine lv_aload_n hx hb dX1_init_111 rfl (lv_at hl 0 rfl) ?_
    refine lv_iload_n hx hb dX1_init_112 rfl (lv_at hl 2 rfl) ?_
    refine lv_iconst (v := nI 1) hx hb dX1_init_113 (by decide) ?_
    have join131 : W p l ee rmX s m args below meth cd H locs 10 1666 Q (F0 m 131 ls [.int (nI D), .ref h]) := by
      refine pX_1 C I hin dX1_init_131 (fun H locs fB efB ofB I => ?_)
      refine lv_iconst (v := nI 1) hx hb dX1_init_134 (by decide) ?_
      refine lv_istore_n (lv' := [(3, .int (nI 1)), (0, .ref h), (1, .int (x)), (2, .int (y))]) hx hb dX1_init_135 rfl hl (by decide) rfl (fun ls hl => ?_)
      refine lv_iconst (v := nI 0) hx hb dX1_init_136 (by decide) ?_
      refine lv_istore (lv' := [(4, .int (nI 0)), (3, .int (nI 1)), (0, .ref h), (1, .int (x)), (2, .int (y))]) hx hb dX1_init_137 hl (by decide) rfl (fun ls hl => ?_)
      have loop139 : ∀ (n : Nat) (i : Nat) (H : Heap) (locs : List Loc) (ls : Array Slot), (L < i + n) → (i ≤ L) → iG wX DD dd AA s.heap h a fB r H locs → lv_has ls 8 [(0, .ref h), (3, .int (nI (D ^ i))), (4, .int (nI i))] → W p l ee rmX s m args below meth cd H locs 10 1666 Q (F0 m 139 ls []) := by
        intro n
        induction n with
        | zero =>
          intros; exfalso; omega
        | succ n ih =>
          intro i H locs ls h1 h2 I hl
          refine lv_iload hx hb dX1_init_139 (lv_at hl 2 rfl) ?_
          refine lv_aload_n hx hb dX1_init_141 rfl (lv_at hl 0 rfl) ?_
          refine gX_0 C I (v := nI (L)) (by rw [ofB 0 (by decide)]; exact efA) dX1_init_142 ?_
          refine n_icge (tgt := 161) hx hb (by omega) (by omega) dX1_init_145 (by decide) (fun c145 => ?_) (fun c145 => ?_)
          · have e9 : L = i := by omega
            subst e9
            refine lv_aload_n hx hb dX1_init_161 rfl (lv_at hl 0 rfl) ?_
            refine lv_iload_n hx hb dX1_init_162 rfl (lv_at hl 1 rfl) ?_
            refine pX_2 C I hin dX1_init_163 (fun H locs fC efC ofC I => ?_)
            have f0 : fC 0 = nI L := by rw [ofC 0 (by decide), ofB 0 (by decide)]; exact efA
            have f1 : fC 1 = nI D := by rw [ofC 1 (by decide)]; exact efB
            have f5 : fC 5 = nI 0 := by rw [ofC 5 (by decide), ofB 5 (by decide), ofA 5 (by decide), hf]; rfl
            obtain ⟨N, hN⟩ : ∃ N, N = D ^ L := ⟨_, rfl⟩
            rw [← hN] at efC hN81 hN1 hl ret
            
            refine lv_iconst (v := nI 0) hx hb dX1_init_166 (by decide) ?_
            refine lv_istore (lv' := [(4, .int (nI 0)), (0, .ref h), (3, .int (nI N))]) hx hb dX1_init_167 hl (by decide) rfl (fun ls hl => ?_)
            have loop169 : ∀ (n : Nat) (z : Nat) (rL : Nat → Nat → Int32) (H : Heap) (locs : List Loc) (ls : Array Slot), (N < z + n) → (z ≤ N) → (∀ k, k ≠ 3 → k ≠ 4 → rL k = r k) → (∀ v i, v < z → i < L → rL 3 (4 * v + i) = nI (cbD D v (L - 1 - i))) → (∀ v d, v < z → d < D → rL 4 (3 * v + d) = nI (cbTimes L D v d)) → (∀ v d, z ≤ v → d < 3 → rL 4 (3 * v + d) = nI 0) → iG wX DD dd AA s.heap h a fC rL H locs → lv_has ls 8 [(0, .ref h), (3, .int (nI N)), (4, .int (nI z))] → W p l ee rmX s m args below meth cd H locs 10 1666 Q (F0 m 169 ls []) := by
              intro n
              induction n with
              | zero =>
                intros; exfalso; omega
              | succ n ih =>
                intro z rL H locs ls h1 h2 hrL t3 t4 t0 I hl
                refine lv_iload hx hb dX1_init_169 (lv_at hl 2 rfl) ?_
                refine lv_iload_n hx hb dX1_init_171 rfl (lv_at hl 1 rfl) ?_
                refine n_icge (tgt := 310) hx hb (by omega) (by omega) dX1_init_172 (by decide) (fun c172 => ?_) (fun c172 => ?_)
                · exact ret _ _ _ _ _ _ dX1_init_310 I (by
                    have e9 : N = z := by omega
                    subst e9
                    refine ⟨⟨⟨hL1, hL4, hD1, hD3, hN1, hN81, hN⟩, f0, f1, efC, t3, t4⟩, by omega, f5, fun k hk => absurd hk (Nat.not_lt_zero k), fun v hv => ?_⟩
                    rw [hrL 8 (by decide) (by decide), hr]; rfl)
                · refine lv_iload hx hb dX1_init_175 (lv_at hl 2 rfl) ?_
                  refine w_top (v := nI (z / D ^ (L - L))) (by rw [Nat.sub_self, Nat.pow_zero, Nat.div_one]) ?_
                  refine lv_istore (lv' := [(5, .int (nI (z / D ^ (L - L)))), (0, .ref h), (3, .int (nI N)), (4, .int (nI z))]) hx hb dX1_init_177 hl (by decide) rfl (fun ls hl => ?_)
                  refine lv_aload_n hx hb dX1_init_179 rfl (lv_at hl 1 rfl) ?_
                  refine gX_0 C I (v := nI (L)) (f0) dX1_init_180 ?_
                  refine lv_iconst (v := nI 1) hx hb dX1_init_183 (by decide) ?_
                  refine lv_isub hx hb dX1_init_184 ?_
                  refine w_top (v := (nI L + -1)) (by rw [Int32.sub_eq_add_neg]; rfl) ?_
                  refine lv_istore (lv' := [(6, .int (nI L + -1)), (5, .int (nI (z / D ^ (L - L)))), (0, .ref h), (3, .int (nI N)), (4, .int (nI z))]) hx hb dX1_init_185 hl (by decide) rfl (fun ls hl => ?_)
                  have loop187 : ∀ (n2 : Nat) (j : Nat) (rI : Nat → Nat → Int32) (H : Heap) (locs : List Loc) (ls : Array Slot), (j < n2) → (j ≤ L) → (∀ k, k ≠ 3 → k ≠ 4 → rI k = r k) → (∀ v i, v < z → i < L → rI 3 (4 * v + i) = nI (cbD D v (L - 1 - i))) → (∀ v d, v < z → d < D → rI 4 (3 * v + d) = nI (cbTimes L D v d)) → (∀ v d, z < v → d < 3 → rI 4 (3 * v + d) = nI 0) → (∀ i, j ≤ i → i < L → rI 3 (4 * z + i) = nI (cbD D z (L - 1 - i))) → (∀ d, d < D → rI 4 (3 * z + d) = nI (cbCnt (fun k => decide (cbD D z k = d)) (L - j))) → iG wX DD dd AA s.heap h a fC rI H locs → lv_has ls 8 [(0, .ref h), (3, .int (nI N)), (4, .int (nI z)), (5, .int (nI (z / D ^ (L - j)))), (6, .int (nI j + -1))] → W p l ee rmX s m args below meth cd H locs 10 1666 Q (F0 m 187 ls []) := by
                    intro n2
                    induction n2 with
                    | zero =>
                      intros; exfalso; omega
                    | succ n2 ih2 =>
                      intro j rI H locs ls h3 h4 hrI o3 o4 o0 i3 i4 I hl
                      refine lv_iload hx hb dX1_init_187 (lv_at hl 4 rfl) ?_
                      refine lv_if_lt (tgt := 304) hx hb dX1_init_189 (by decide) (fun c189 => ?_) (fun c189 => ?_)
                      · have hj0 : j = 0 := by
                          rcases Nat.eq_zero_or_pos j with q | q
                          · exact q
                          · obtain ⟨i, rfl⟩ : ∃ i, j = i + 1 := ⟨j - 1, by omega⟩
                            rw [pk_m1] at c189
                            exact absurd c189 (nI_pos (by omega))
                        subst hj0
                        refine lv_iinc (v := nI (z + 1)) (lv' := [(4, .int (nI (z + 1))), (0, .ref h), (3, .int (nI N)), (5, .int (nI (z / D ^ (L - 0)))), (6, .int (nI 0 + -1))]) hx hb dX1_init_304 hl (k := 2) rfl (nI_1 _) (by decide) rfl (fun ls hl => ?_)
                        refine lv_goto (tgt := 169) hx hb dX1_init_307 (by decide) ?_
                        exact ih (z + 1) _ _ _ _ (by omega) (by omega) hrI (fun v i hv hi => by
                          by_cases hvz : v = z
                          · subst hvz; exact i3 i (Nat.zero_le _) hi
                          · exact o3 v i (by omega) hi) (fun v d hv hd => by
                          by_cases hvz : v = z
                          · subst hvz; exact i4 d hd
                          · exact o4 v d (by omega) hd) (fun v d hv hd => o0 v d (by omega) hd) I (lv_sub hl [1, 2, 0] rfl)
                      · obtain ⟨i, rfl⟩ : ∃ i, j = i + 1 := by
                          rcases Nat.eq_zero_or_pos j with q | q
                          · subst q; exact absurd (by decide) c189
                          · exact ⟨j - 1, by omega⟩
                        rw [pk_m1] at hl
                        have hzq : z / D ^ (L - (i + 1)) ≤ z := Nat.div_le_self _ _
                        obtain ⟨V, hV⟩ : ∃ V, V = z / D ^ (L - (i + 1)) % D := ⟨_, rfl⟩
                        have hVD : V < D := by rw [hV]; exact Nat.mod_lt _ hD1
                        have hdig2 : cbD D z (L - (i + 1)) = V := hV.symm
                        have hdig : V = cbD D z (L - 1 - i) := by rw [show L - 1 - i = L - (i + 1) by omega]; exact hV
                        have hD0 : D = 1 → z / D ^ (L - (i + 1)) = 0 := fun q => by
                          have e9 : N = 1 := by rw [hN, q, Nat.one_pow]
                          have hz0 : z = 0 := by omega
                          rw [hz0, Nat.zero_div]
                        refine lv_aload_n hx hb dX1_init_192 rfl (lv_at hl 0 rfl) ?_
                        refine gX_1 C I (v := nI (D)) (f1) dX1_init_193 ?_
                        refine lv_iconst (v := nI 1) hx hb dX1_init_196 (by decide) ?_
                        have join223 : W p l ee rmX s m args below meth cd H locs 10 1666 Q (F0 m 223 ls [.int (nI V)]) := by
                          refine lv_istore (lv' := [(7, .int (nI V)), (0, .ref h), (3, .int (nI N)), (4, .int (nI z)), (5, .int (nI (z / D ^ (L - (i + 1))))), (6, .int (nI i))]) hx hb dX1_init_223 hl (by decide) rfl (fun ls hl => ?_)
                          refine lv_aload_n hx hb dX1_init_225 rfl (lv_at hl 1 rfl) ?_
                          refine gX_1 C I (v := nI (D)) (f1) dX1_init_226 ?_
                          refine lv_iconst (v := nI 1) hx hb dX1_init_229 (by decide) ?_
                          have join256 : W p l ee rmX s m args below meth cd H locs 10 1666 Q (F0 m 256 ls [.int (nI (z / D ^ (L - i)))]) := by
                            refine lv_istore (lv' := [(5, .int (nI (z / D ^ (L - i)))), (7, .int (nI V)), (0, .ref h), (3, .int (nI N)), (4, .int (nI z)), (6, .int (nI i))]) hx hb dX1_init_256 hl (by decide) rfl (fun ls hl => ?_)
                            refine lv_aload_n hx hb dX1_init_258 rfl (lv_at hl 2 rfl) ?_
                            refine gX_3 C I dX1_init_259 ?_
                            refine lv_iconst (v := nI 4) hx hb dX1_init_262 (by decide) ?_
                            refine lv_iload hx hb dX1_init_263 (lv_at hl 4 rfl) ?_
                            refine n_mul hx hb dX1_init_265 ?_
                            refine lv_iload hx hb dX1_init_266 (lv_at hl 5 rfl) ?_
                            refine n_add hx hb dX1_init_268 ?_
                            refine lv_iload hx hb dX1_init_269 (lv_at hl 1 rfl) ?_
                            refine stX_3 C I ((4 * z) + i) (rfl) (by omega) dX1_init_271 (fun H locs rE erE orE I => ?_)
                            refine lv_aload_n hx hb dX1_init_272 rfl (lv_at hl 2 rfl) ?_
                            refine gX_4 C I dX1_init_273 ?_
                            refine lv_iconst (v := nI 3) hx hb dX1_init_276 (by decide) ?_
                            refine lv_iload hx hb dX1_init_277 (lv_at hl 4 rfl) ?_
                            refine n_mul hx hb dX1_init_279 ?_
                            refine lv_iload hx hb dX1_init_280 (lv_at hl 1 rfl) ?_
                            refine n_add hx hb dX1_init_282 ?_
                            refine lv_aload_n hx hb dX1_init_283 rfl (lv_at hl 2 rfl) ?_
                            refine gX_4 C I dX1_init_284 ?_
                            refine lv_iconst (v := nI 3) hx hb dX1_init_287 (by decide) ?_
                            refine lv_iload hx hb dX1_init_288 (lv_at hl 4 rfl) ?_
                            refine n_mul hx hb dX1_init_290 ?_
                            refine lv_iload hx hb dX1_init_291 (lv_at hl 1 rfl) ?_
                            refine n_add hx hb dX1_init_293 ?_
                            refine ldX_4 C I ((3 * z) + V) (rfl) (by omega) (v := nI (cbCnt (fun k => decide (cbD D z k = V)) (L - (i + 1)))) (by rw [orE 4 (by decide)]; exact i4 V hVD) dX1_init_294 ?_
                            refine lv_iconst (v := nI 1) hx hb dX1_init_295 (by decide) ?_
                            refine n_add hx hb dX1_init_296 ?_
                            refine stX_4 C I ((3 * z) + V) (rfl) (by omega) dX1_init_297 (fun H locs rF erF orF I => ?_)
                            refine lv_iinc (v := (nI i + -1)) (lv' := [(6, .int (nI i + -1)), (5, .int (nI (z / D ^ (L - i)))), (7, .int (nI V)), (0, .ref h), (3, .int (nI N)), (4, .int (nI z))]) hx hb dX1_init_298 hl (k := 5) rfl (rfl) (by decide) rfl (fun ls hl => ?_)
                            refine lv_goto (tgt := 187) hx hb dX1_init_301 (by decide) ?_
                            refine ih2 i _ _ _ _ (by omega) (by omega) (fun k k3 k4 => by rw [orF k k4, orE k k3]; exact hrI k k3 k4) ?_ ?_ ?_ ?_ ?_ I (lv_sub hl [3, 4, 5, 1, 0] rfl)
                            · intro v i2 hv hi2
                              rw [orF 3 (by decide), erE, pk_un (by omega)]; exact o3 v i2 hv hi2
                            · intro v d hv hd
                              rw [erF, pk_un (by omega), orE 4 (by decide)]; exact o4 v d hv hd
                            · intro v d hv hd
                              rw [erF, pk_un (by omega), orE 4 (by decide)]; exact o0 v d hv hd
                            · intro i2 h5 h6
                              rw [orF 3 (by decide), erE]
                              by_cases he : i2 = i
                              · subst he; rw [pk_us, hdig]
                              · rw [pk_un (by omega)]; exact i3 i2 (by omega) h6
                            · intro d hd
                              rw [erF, show L - i = (L - (i + 1)) + 1 by omega]
                              by_cases he : d = V
                              · subst he; rw [pk_us, cbCnt_t (decide_eq_true hdig2)]
                              · rw [pk_un (by omega), orE 4 (by decide), cbCnt_f (decide_eq_false (by rw [hdig2]; exact Ne.symm he))]; exact i4 d hd
                          refine n_icne (tgt := 237) hx hb (by omega) (by omega) dX1_init_230 (by decide) (fun c230 => ?_) (fun c230 => ?_)
                          · refine lv_aload_n hx hb dX1_init_237 rfl (lv_at hl 1 rfl) ?_
                            refine gX_1 C I (v := nI (D)) (f1) dX1_init_238 ?_
                            refine lv_iconst (v := nI 2) hx hb dX1_init_241 (by decide) ?_
                            refine n_icne (tgt := 252) hx hb (by omega) (by omega) dX1_init_242 (by decide) (fun c242 => ?_) (fun c242 => ?_)
                            · refine lv_iload hx hb dX1_init_252 (lv_at hl 4 rfl) ?_
                              refine lv_iconst (v := nI 3) hx hb dX1_init_254 (by decide) ?_
                              refine n_div hx hb (by omega) (by omega) (by omega) dX1_init_255 ?_
                              refine w_top (v := nI (z / D ^ (L - i))) (by rw [show L - i = (L - (i + 1)) + 1 by omega, Nat.pow_succ, ← Nat.div_div_eq_div_mul, show D = 3 by omega]) ?_
                              exact join256
                            · refine lv_iload hx hb dX1_init_245 (lv_at hl 4 rfl) ?_
                              refine lv_iconst (v := nI 2) hx hb dX1_init_247 (by decide) ?_
                              refine n_div hx hb (by omega) (by omega) (by omega) dX1_init_248 ?_
                              refine lv_goto (tgt := 256) hx hb dX1_init_249 (by decide) ?_
                              refine w_top (v := nI (z / D ^ (L - i))) (by rw [show L - i = (L - (i + 1)) + 1 by omega, Nat.pow_succ, ← Nat.div_div_eq_div_mul, show D = 2 by omega]) ?_
                              exact join256
                          · refine lv_iconst (v := nI 0) hx hb dX1_init_233 (by decide) ?_
                            refine lv_goto (tgt := 256) hx hb dX1_init_234 (by decide) ?_
                            refine w_top (v := nI (z / D ^ (L - i))) (by rw [show L - i = (L - (i + 1)) + 1 by omega, Nat.pow_succ, ← Nat.div_div_eq_div_mul, hD0 c230, Nat.zero_div]) ?_
                            exact join256
                        refine n_icne (tgt := 204) hx hb (by omega) (by omega) dX1_init_197 (by decide) (fun c197 => ?_) (fun c197 => ?_)
                        · refine lv_aload_n hx hb dX1_init_204 rfl (lv_at hl 0 rfl) ?_
                          refine gX_1 C I (v := nI (D)) (f1) dX1_init_205 ?_
                          refine lv_iconst (v := nI 2) hx hb dX1_init_208 (by decide) ?_
                          refine n_icne (tgt := 219) hx hb (by omega) (by omega) dX1_init_209 (by decide) (fun c209 => ?_) (fun c209 => ?_)
                          · refine lv_iload hx hb dX1_init_219 (lv_at hl 3 rfl) ?_
                            refine lv_iconst (v := nI 3) hx hb dX1_init_221 (by decide) ?_
                            refine n_rem hx hb (by omega) (by omega) (by omega) dX1_init_222 ?_
                            refine w_top (v := nI (V)) (by rw [hV, show D = 3 by omega]) ?_
                            exact join223
                          · refine lv_iload hx hb dX1_init_212 (lv_at hl 3 rfl) ?_
                            refine lv_iconst (v := nI 2) hx hb dX1_init_214 (by decide) ?_
                            refine n_rem hx hb (by omega) (by omega) (by omega) dX1_init_215 ?_
                            refine lv_goto (tgt := 223) hx hb dX1_init_216 (by decide) ?_
                            refine w_top (v := nI (V)) (by rw [hV, show D = 2 by omega]) ?_
                            exact join223
                        · refine lv_iconst (v := nI 0) hx hb dX1_init_200 (by decide) ?_
                          refine lv_goto (tgt := 223) hx hb dX1_init_201 (by decide) ?_
                          refine w_top (v := nI (V)) (by rw [hV, show D = 1 by omega, Nat.mod_one]) ?_
                          exact join223
                  exact loop187 (L + 1) L _ _ _ _ (by omega) (by omega) hrL t3 t4 (fun v d hv hd => t0 v d (by omega) hd) (fun i h5 h6 => absurd h6 (by omega)) (fun d hd => by rw [t0 z d (Nat.le_refl _) (by omega), Nat.sub_self]; rfl) I (lv_sub hl [2, 3, 4, 1, 0] rfl)
            exact loop169 (N + 1) 0 _ _ _ _ (by omega) (by omega) (fun _ _ _ => rfl) (fun v i hv _ => absurd hv (Nat.not_lt_zero v)) (fun v d hv _ => absurd hv (Nat.not_lt_zero v)) (fun v d _ _ => by rw [hr]; rfl) I (lv_sub hl [1, 2, 0] rfl)
          · refine lv_iload_n hx hb dX1_init_148 rfl (lv_at hl 1 rfl) ?_
            refine lv_aload_n hx hb dX1_init_149 rfl (lv_at hl 0 rfl) ?_
            refine gX_1 C I (v := nI (D)) (efB) dX1_init_150 ?_
            refine n_mul hx hb dX1_init_153 ?_
            refine lv_istore_n (lv' := [(3, .int (nI ((D ^ i) * D))), (0, .ref h), (4, .int (nI i))]) hx hb dX1_init_154 rfl hl (by decide) rfl (fun ls hl => ?_)
            refine lv_iinc (v := nI (i + 1)) (lv' := [(4, .int (nI (i + 1))), (3, .int (nI ((D ^ i) * D))), (0, .ref h)]) hx hb dX1_init_155 hl (k := 2) rfl (nI_1 _) (by decide) rfl (fun ls hl => ?_)
            refine lv_goto (tgt := 139) hx hb dX1_init_158 (by decide) ?_
            exact ih (i + 1) _ _ _ (by omega) (by omega) I (lv_sub hl [2, 1, 0] rfl)
      exact loop139 (L + 1) 0 _ _ _ (by omega) (by omega) I (lv_sub hl [2, 1, 0] rfl)
    refine lv_icmp_ge (tgt := 121) hx hb dX1_init_114 (by decide) (fun c114 => ?_) (fun c114 => ?_)
    · refine lv_iload_n hx hb dX1_init_121 rfl (lv_at hl 2 rfl) ?_
      refine lv_iconst (v := nI 3) hx hb dX1_init_122 (by decide) ?_
      refine lv_icmp_le (tgt := 130) hx hb dX1_init_123 (by decide) (fun c123 => ?_) (fun c123 => ?_)
      · refine lv_iload_n hx hb dX1_init_130 rfl (lv_at hl 2 rfl) ?_
        refine w_top (v := nI (D)) (by rw [hD]; exact (cbClamp_v c114 c123 (by decide)).1) ?_
        exact join131
      · refine lv_iconst (v := nI 3) hx hb dX1_init_126 (by decide) ?_
        refine lv_goto (tgt := 131) hx hb dX1_init_127 (by decide) ?_
        refine w_top (v := nI (D)) (by rw [hD, cbClamp_hi c114 c123]) ?_
        exact join131
    · refine lv_iconst (v := nI 1) hx hb dX1_init_117 (by decide) ?_
      refine lv_goto (tgt := 131) hx hb dX1_init_118 (by decide) ?_
      refine w_top (v := nI (D)) (by rw [hD, cbClamp_lo c114]) ?_
      exact join131
  refine lv_icmp_ge (tgt := 98) hx hb dX1_init_91 (by decide) (fun c91 => ?_) (fun c91 => ?_)
  · refine lv_iload_n hx hb dX1_init_98 rfl (lv_at hl 1 rfl) ?_
    refine lv_iconst (v := nI 4) hx hb dX1_init_99 (by decide) ?_
    refine lv_icmp_le (tgt := 107) hx hb dX1_init_100 (by decide) (fun c100 => ?_) (fun c100 => ?_)
    · refine lv_iload_n hx hb dX1_init_107 rfl (lv_at hl 1 rfl) ?_
      refine w_top (v := nI (L)) (by rw [hL]; exact (cbClamp_v c91 c100 (by decide)).1) ?_
      exact join108
    · refine lv_iconst (v := nI 4) hx hb dX1_init_103 (by decide) ?_
      refine lv_goto (tgt := 108) hx hb dX1_init_104 (by decide) ?_
      refine w_top (v := nI (L)) (by rw [hL, cbClamp_hi c91 c100]) ?_
      exact join108
  · refine lv_iconst (v := nI 1) hx hb dX1_init_94 (by decide) ?_
    refine lv_goto (tgt := 108) hx hb dX1_init_95 (by decide) ?_
    refine w_top (v := nI (L)) (by rw [hL, cbClamp_lo c91]) ?_
    exact join108
set_option maxHeartbeats 4000000 in
set_option maxRecDepth 100000 in
theorem metX_init (l : Launch) (DD : va_G) (dd : ClassId) (h : Nat) (x y : Int32) (sz : Nat) : Met l yX1_init (ws_ yX1_init cX1_init 8 none) rmX (va_Pc [.ref h, .int x, .int y] (fun U => U.heap.size = sz ∧ va_P DD vwCl (wX0 h) U.heap ∧ va_K DD vwCl [(dd, .int)] U ∧ va_D (fun _ => True) (wX0 h))) (va_Qv (fun (u : (Nat → Nat) × sT) => stX (cbClamp 4 x) (cbClamp 3 y) (cbClamp 3 y ^ cbClamp 4 x) 0 (fun _ => 0) (fun _ => 0) u.2.1 u.2.2) (fun u t => va_P DD vwCl (wX h u.1 dd u.2.1 u.2.2) t.heap ∧ va_D (va_A (wX0 h) sz) (wX h u.1 dd u.2.1 u.2.2)) (va_A (wX0 h) sz)) 10 1666 (va_A (wX0 h) sz) := by
  refine Met.ofW (cc := cX1_init) (maxL := 8) (ret := none) (by decide) rfl ?_
  intro p ee s m args below meth cd s₁ B0 hml hv
  obtain ⟨rfl, hsz, hP, hK, hD0⟩ := hv
  have hx := B0.exec
  have hb := B0.bytes
  have hts := atoms_spec (ws := ws_ yX1_init cX1_init 8 none) B0.pre
  have hts : ∀ w ∈ lw_all, w.before _ s = true := fun w h => hts w (List.mem_cons_of_mem _ h)
  have hown : s.vm.findClass RX1 = some m.cls := findClass_of_methodNamed B0.named
  have hin : meth.name = "<init>" := (name_of_methodNamed B0.named B0.method).1
  subst hsz
  have hD := hD0.self (sz := s.heap.size)
  generalize hAe : va_A (wX0 h) s.heap.size = AA at hD ⊢
  have hA : ∀ q : Nat, s.heap.size ≤ q → AA q := fun q h => by rw [← hAe]; exact Or.inr h
  have hS : va_S AA s.heap s.heap [] := va_S.rf
  have hl := lv_entry ([.ref h, .int x, .int y]) (n := 8) (Nat.le_of_ble_eq_true rfl)
  rw [lg_entry_eq]
  generalize (lg_sl ([.ref h, .int x, .int y]) ++ List.replicate (8 - (lg_sl ([.ref h, .int x, .int y])).length) Slot.unset).toArray = ls at hl ⊢
  have hl : lv_has ls 8 [(0, .ref h), (1, .int x), (2, .int y)] := hl
  have hP : va_P DD vwCl [(h, .inr (0, [.int 0, .int 0, .int 0, .null, .null, .int 0, .null, .null, .null, .null, .int 0, .int 0, .int 0, .int 0, .null, .null, .null, .null]))] s.heap := hP
  have hD : va_D AA [(h, .inr (0, [.int 0, .int 0, .int 0, .null, .null, .int 0, .null, .null, .null, .null, .int 0, .int 0, .int 0, .int 0, .null, .null, .null, .null]))] := hD
  refine lv_aload_n hx hb dX1_init_0 rfl (lv_at hl 0 rfl) ?_
  refine W.objInit hx hb hown (hts _ q35) (hts _ q36) (hts _ q37) rfl (by rw [hml]; exact hl.1) rfl dX1_init_1 (Nat.le_of_ble_eq_true rfl) (Nat.le_of_ble_eq_true rfl) ?_
  refine W.eq (g2 := F0 m 4 ls []) rfl ?_
  refine lv_aload_n hx hb dX1_init_4 rfl (lv_at hl 0 rfl) ?_
  refine lv_sipush (v := nI 324) hx hb dX1_init_5 (by decide) ?_
  refine va_newi hx hb (hts _ q93) hK hP hD hS hA 324 (by decide) (Nat.le_of_ble_eq_true rfl) (Nat.le_of_ble_eq_true rfl) dX1_init_8 (fun q3 H hP hD hS => ?_)
  have hP : va_P DD vwCl [(h, .inr (0, [.int 0, .int 0, .int 0, .null, .null, .int 0, .null, .null, .null, .null, .int 0, .int 0, .int 0, .int 0, .null, .null, .null, .null])), (q3, .inl (dd, 324, .inl (fun _ => 0)))] H := hP
  have hD : va_D AA [(h, .inr (0, [.int 0, .int 0, .int 0, .null, .null, .int 0, .null, .null, .null, .null, .int 0, .int 0, .int 0, .int 0, .null, .null, .null, .null])), (q3, .inl (dd, 324, .inl (fun _ => 0)))] := hD
  refine va_putF (D := DD) (ci := 0) (v := .ref q3) (ty := .array .int) (C := RX1) (T := TX1) (N := 18) hx hb hts in_X1 tyX1 tyX1_ok nmX1 hown hK hP hD hS 0 rfl rfl 3 (by decide) (hts _ q41) (fun _ h9 => h9) rfl hin rfl (by decide +kernel) rfl rfl (Nat.le_of_ble_eq_true rfl) dX1_init_10 (fun H locs hP hD hS => ?_)
  have hP : va_P DD vwCl [(h, .inr (0, [.int 0, .int 0, .int 0, .ref q3, .null, .int 0, .null, .null, .null, .null, .int 0, .int 0, .int 0, .int 0, .null, .null, .null, .null])), (q3, .inl (dd, 324, .inl (fun _ => 0)))] H := hP
  have hD : va_D AA [(h, .inr (0, [.int 0, .int 0, .int 0, .ref q3, .null, .int 0, .null, .null, .null, .null, .int 0, .int 0, .int 0, .int 0, .null, .null, .null, .null])), (q3, .inl (dd, 324, .inl (fun _ => 0)))] := hD
  refine lv_aload_n hx hb dX1_init_13 rfl (lv_at hl 0 rfl) ?_
  refine lv_sipush (v := nI 243) hx hb dX1_init_14 (by decide) ?_
  refine va_newi hx hb (hts _ q93) hK hP hD hS hA 243 (by decide) (Nat.le_of_ble_eq_true rfl) (Nat.le_of_ble_eq_true rfl) dX1_init_17 (fun q4 H hP hD hS => ?_)
  have hP : va_P DD vwCl [(h, .inr (0, [.int 0, .int 0, .int 0, .ref q3, .null, .int 0, .null, .null, .null, .null, .int 0, .int 0, .int 0, .int 0, .null, .null, .null, .null])), (q3, .inl (dd, 324, .inl (fun _ => 0))), (q4, .inl (dd, 243, .inl (fun _ => 0)))] H := hP
  have hD : va_D AA [(h, .inr (0, [.int 0, .int 0, .int 0, .ref q3, .null, .int 0, .null, .null, .null, .null, .int 0, .int 0, .int 0, .int 0, .null, .null, .null, .null])), (q3, .inl (dd, 324, .inl (fun _ => 0))), (q4, .inl (dd, 243, .inl (fun _ => 0)))] := hD
  refine va_putF (D := DD) (ci := 0) (v := .ref q4) (ty := .array .int) (C := RX1) (T := TX1) (N := 18) hx hb hts in_X1 tyX1 tyX1_ok nmX1 hown hK hP hD hS 0 rfl rfl 4 (by decide) (hts _ q42) (fun _ h9 => h9) rfl hin rfl (by decide +kernel) rfl rfl (Nat.le_of_ble_eq_true rfl) dX1_init_19 (fun H locs hP hD hS => ?_)
  have hP : va_P DD vwCl [(h, .inr (0, [.int 0, .int 0, .int 0, .ref q3, .ref q4, .int 0, .null, .null, .null, .null, .int 0, .int 0, .int 0, .int 0, .null, .null, .null, .null])), (q3, .inl (dd, 324, .inl (fun _ => 0))), (q4, .inl (dd, 243, .inl (fun _ => 0)))] H := hP
  have hD : va_D AA [(h, .inr (0, [.int 0, .int 0, .int 0, .ref q3, .ref q4, .int 0, .null, .null, .null, .null, .int 0, .int 0, .int 0, .int 0, .null, .null, .null, .null])), (q3, .inl (dd, 324, .inl (fun _ => 0))), (q4, .inl (dd, 243, .inl (fun _ => 0)))] := hD
  refine lv_aload_n hx hb dX1_init_22 rfl (lv_at hl 0 rfl) ?_
  refine lv_bipush (v := nI 8) hx hb dX1_init_23 (by decide) ?_
  refine va_newi hx hb (hts _ q93) hK hP hD hS hA 8 (by decide) (Nat.le_of_ble_eq_true rfl) (Nat.le_of_ble_eq_true rfl) dX1_init_25 (fun q6 H hP hD hS => ?_)
  have hP : va_P DD vwCl [(h, .inr (0, [.int 0, .int 0, .int 0, .ref q3, .ref q4, .int 0, .null, .null, .null, .null, .int 0, .int 0, .int 0, .int 0, .null, .null, .null, .null])), (q3, .inl (dd, 324, .inl (fun _ => 0))), (q4, .inl (dd, 243, .inl (fun _ => 0))), (q6, .inl (dd, 8, .inl (fun _ => 0)))] H := hP
  have hD : va_D AA [(h, .inr (0, [.int 0, .int 0, .int 0, .ref q3, .ref q4, .int 0, .null, .null, .null, .null, .int 0, .int 0, .int 0, .int 0, .null, .null, .null, .null])), (q3, .inl (dd, 324, .inl (fun _ => 0))), (q4, .inl (dd, 243, .inl (fun _ => 0))), (q6, .inl (dd, 8, .inl (fun _ => 0)))] := hD
  refine va_putF (D := DD) (ci := 0) (v := .ref q6) (ty := .array .int) (C := RX1) (T := TX1) (N := 18) hx hb hts in_X1 tyX1 tyX1_ok nmX1 hown hK hP hD hS 0 rfl rfl 6 (by decide) (hts _ q44) (fun _ h9 => h9) rfl hin rfl (by decide +kernel) rfl rfl (Nat.le_of_ble_eq_true rfl) dX1_init_27 (fun H locs hP hD hS => ?_)
  have hP : va_P DD vwCl [(h, .inr (0, [.int 0, .int 0, .int 0, .ref q3, .ref q4, .int 0, .ref q6, .null, .null, .null, .int 0, .int 0, .int 0, .int 0, .null, .null, .null, .null])), (q3, .inl (dd, 324, .inl (fun _ => 0))), (q4, .inl (dd, 243, .inl (fun _ => 0))), (q6, .inl (dd, 8, .inl (fun _ => 0)))] H := hP
  have hD : va_D AA [(h, .inr (0, [.int 0, .int 0, .int 0, .ref q3, .ref q4, .int 0, .ref q6, .null, .null, .null, .int 0, .int 0, .int 0, .int 0, .null, .null, .null, .null])), (q3, .inl (dd, 324, .inl (fun _ => 0))), (q4, .inl (dd, 243, .inl (fun _ => 0))), (q6, .inl (dd, 8, .inl (fun _ => 0)))] := hD
  refine lv_aload_n hx hb dX1_init_30 rfl (lv_at hl 0 rfl) ?_
  refine lv_bipush (v := nI 8) hx hb dX1_init_31 (by decide) ?_
  refine va_newi hx hb (hts _ q93) hK hP hD hS hA 8 (by decide) (Nat.le_of_ble_eq_true rfl) (Nat.le_of_ble_eq_true rfl) dX1_init_33 (fun q7 H hP hD hS => ?_)
  have hP : va_P DD vwCl [(h, .inr (0, [.int 0, .int 0, .int 0, .ref q3, .ref q4, .int 0, .ref q6, .null, .null, .null, .int 0, .int 0, .int 0, .int 0, .null, .null, .null, .null])), (q3, .inl (dd, 324, .inl (fun _ => 0))), (q4, .inl (dd, 243, .inl (fun _ => 0))), (q6, .inl (dd, 8, .inl (fun _ => 0))), (q7, .inl (dd, 8, .inl (fun _ => 0)))] H := hP
  have hD : va_D AA [(h, .inr (0, [.int 0, .int 0, .int 0, .ref q3, .ref q4, .int 0, .ref q6, .null, .null, .null, .int 0, .int 0, .int 0, .int 0, .null, .null, .null, .null])), (q3, .inl (dd, 324, .inl (fun _ => 0))), (q4, .inl (dd, 243, .inl (fun _ => 0))), (q6, .inl (dd, 8, .inl (fun _ => 0))), (q7, .inl (dd, 8, .inl (fun _ => 0)))] := hD
  refine va_putF (D := DD) (ci := 0) (v := .ref q7) (ty := .array .int) (C := RX1) (T := TX1) (N := 18) hx hb hts in_X1 tyX1 tyX1_ok nmX1 hown hK hP hD hS 0 rfl rfl 7 (by decide) (hts _ q45) (fun _ h9 => h9) rfl hin rfl (by decide +kernel) rfl rfl (Nat.le_of_ble_eq_true rfl) dX1_init_35 (fun H locs hP hD hS => ?_)
  have hP : va_P DD vwCl [(h, .inr (0, [.int 0, .int 0, .int 0, .ref q3, .ref q4, .int 0, .ref q6, .ref q7, .null, .null, .int 0, .int 0, .int 0, .int 0, .null, .null, .null, .null])), (q3, .inl (dd, 324, .inl (fun _ => 0))), (q4, .inl (dd, 243, .inl (fun _ => 0))), (q6, .inl (dd, 8, .inl (fun _ => 0))), (q7, .inl (dd, 8, .inl (fun _ => 0)))] H := hP
  have hD : va_D AA [(h, .inr (0, [.int 0, .int 0, .int 0, .ref q3, .ref q4, .int 0, .ref q6, .ref q7, .null, .null, .int 0, .int 0, .int 0, .int 0, .null, .null, .null, .null])), (q3, .inl (dd, 324, .inl (fun _ => 0))), (q4, .inl (dd, 243, .inl (fun _ => 0))), (q6, .inl (dd, 8, .inl (fun _ => 0))), (q7, .inl (dd, 8, .inl (fun _ => 0)))] := hD
  refine lv_aload_n hx hb dX1_init_38 rfl (lv_at hl 0 rfl) ?_
  refine lv_bipush (v := nI 81) hx hb dX1_init_39 (by decide) ?_
  refine va_newi hx hb (hts _ q93) hK hP hD hS hA 81 (by decide) (Nat.le_of_ble_eq_true rfl) (Nat.le_of_ble_eq_true rfl) dX1_init_41 (fun q8 H hP hD hS => ?_)
  have hP : va_P DD vwCl [(h, .inr (0, [.int 0, .int 0, .int 0, .ref q3, .ref q4, .int 0, .ref q6, .ref q7, .null, .null, .int 0, .int 0, .int 0, .int 0, .null, .null, .null, .null])), (q3, .inl (dd, 324, .inl (fun _ => 0))), (q4, .inl (dd, 243, .inl (fun _ => 0))), (q6, .inl (dd, 8, .inl (fun _ => 0))), (q7, .inl (dd, 8, .inl (fun _ => 0))), (q8, .inl (dd, 81, .inl (fun _ => 0)))] H := hP
  have hD : va_D AA [(h, .inr (0, [.int 0, .int 0, .int 0, .ref q3, .ref q4, .int 0, .ref q6, .ref q7, .null, .null, .int 0, .int 0, .int 0, .int 0, .null, .null, .null, .null])), (q3, .inl (dd, 324, .inl (fun _ => 0))), (q4, .inl (dd, 243, .inl (fun _ => 0))), (q6, .inl (dd, 8, .inl (fun _ => 0))), (q7, .inl (dd, 8, .inl (fun _ => 0))), (q8, .inl (dd, 81, .inl (fun _ => 0)))] := hD
  refine va_putF (D := DD) (ci := 0) (v := .ref q8) (ty := .array .int) (C := RX1) (T := TX1) (N := 18) hx hb hts in_X1 tyX1 tyX1_ok nmX1 hown hK hP hD hS 0 rfl rfl 8 (by decide) (hts _ q46) (fun _ h9 => h9) rfl hin rfl (by decide +kernel) rfl rfl (Nat.le_of_ble_eq_true rfl) dX1_init_43 (fun H locs hP hD hS => ?_)
  have hP : va_P DD vwCl [(h, .inr (0, [.int 0, .int 0, .int 0, .ref q3, .ref q4, .int 0, .ref q6, .ref q7, .ref q8, .null, .int 0, .int 0, .int 0, .int 0, .null, .null, .null, .null])), (q3, .inl (dd, 324, .inl (fun _ => 0))), (q4, .inl (dd, 243, .inl (fun _ => 0))), (q6, .inl (dd, 8, .inl (fun _ => 0))), (q7, .inl (dd, 8, .inl (fun _ => 0))), (q8, .inl (dd, 81, .inl (fun _ => 0)))] H := hP
  have hD : va_D AA [(h, .inr (0, [.int 0, .int 0, .int 0, .ref q3, .ref q4, .int 0, .ref q6, .ref q7, .ref q8, .null, .int 0, .int 0, .int 0, .int 0, .null, .null, .null, .null])), (q3, .inl (dd, 324, .inl (fun _ => 0))), (q4, .inl (dd, 243, .inl (fun _ => 0))), (q6, .inl (dd, 8, .inl (fun _ => 0))), (q7, .inl (dd, 8, .inl (fun _ => 0))), (q8, .inl (dd, 81, .inl (fun _ => 0)))] := hD
  refine lv_aload_n hx hb dX1_init_46 rfl (lv_at hl 0 rfl) ?_
  refine lv_bipush (v := nI 45) hx hb dX1_init_47 (by decide) ?_
  refine va_newi hx hb (hts _ q93) hK hP hD hS hA 45 (by decide) (Nat.le_of_ble_eq_true rfl) (Nat.le_of_ble_eq_true rfl) dX1_init_49 (fun q9 H hP hD hS => ?_)
  have hP : va_P DD vwCl [(h, .inr (0, [.int 0, .int 0, .int 0, .ref q3, .ref q4, .int 0, .ref q6, .ref q7, .ref q8, .null, .int 0, .int 0, .int 0, .int 0, .null, .null, .null, .null])), (q3, .inl (dd, 324, .inl (fun _ => 0))), (q4, .inl (dd, 243, .inl (fun _ => 0))), (q6, .inl (dd, 8, .inl (fun _ => 0))), (q7, .inl (dd, 8, .inl (fun _ => 0))), (q8, .inl (dd, 81, .inl (fun _ => 0))), (q9, .inl (dd, 45, .inl (fun _ => 0)))] H := hP
  have hD : va_D AA [(h, .inr (0, [.int 0, .int 0, .int 0, .ref q3, .ref q4, .int 0, .ref q6, .ref q7, .ref q8, .null, .int 0, .int 0, .int 0, .int 0, .null, .null, .null, .null])), (q3, .inl (dd, 324, .inl (fun _ => 0))), (q4, .inl (dd, 243, .inl (fun _ => 0))), (q6, .inl (dd, 8, .inl (fun _ => 0))), (q7, .inl (dd, 8, .inl (fun _ => 0))), (q8, .inl (dd, 81, .inl (fun _ => 0))), (q9, .inl (dd, 45, .inl (fun _ => 0)))] := hD
  refine va_putF (D := DD) (ci := 0) (v := .ref q9) (ty := .array .int) (C := RX1) (T := TX1) (N := 18) hx hb hts in_X1 tyX1 tyX1_ok nmX1 hown hK hP hD hS 0 rfl rfl 9 (by decide) (hts _ q47) (fun _ h9 => h9) rfl hin rfl (by decide +kernel) rfl rfl (Nat.le_of_ble_eq_true rfl) dX1_init_51 (fun H locs hP hD hS => ?_)
  have hP : va_P DD vwCl [(h, .inr (0, [.int 0, .int 0, .int 0, .ref q3, .ref q4, .int 0, .ref q6, .ref q7, .ref q8, .ref q9, .int 0, .int 0, .int 0, .int 0, .null, .null, .null, .null])), (q3, .inl (dd, 324, .inl (fun _ => 0))), (q4, .inl (dd, 243, .inl (fun _ => 0))), (q6, .inl (dd, 8, .inl (fun _ => 0))), (q7, .inl (dd, 8, .inl (fun _ => 0))), (q8, .inl (dd, 81, .inl (fun _ => 0))), (q9, .inl (dd, 45, .inl (fun _ => 0)))] H := hP
  have hD : va_D AA [(h, .inr (0, [.int 0, .int 0, .int 0, .ref q3, .ref q4, .int 0, .ref q6, .ref q7, .ref q8, .ref q9, .int 0, .int 0, .int 0, .int 0, .null, .null, .null, .null])), (q3, .inl (dd, 324, .inl (fun _ => 0))), (q4, .inl (dd, 243, .inl (fun _ => 0))), (q6, .inl (dd, 8, .inl (fun _ => 0))), (q7, .inl (dd, 8, .inl (fun _ => 0))), (q8, .inl (dd, 81, .inl (fun _ => 0))), (q9, .inl (dd, 45, .inl (fun _ => 0)))] := hD
  refine lv_aload_n hx hb dX1_init_54 rfl (lv_at hl 0 rfl) ?_
  refine lv_bipush (v := nI 8) hx hb dX1_init_55 (by decide) ?_
  refine va_newi hx hb (hts _ q93) hK hP hD hS hA 8 (by decide) (Nat.le_of_ble_eq_true rfl) (Nat.le_of_ble_eq_true rfl) dX1_init_57 (fun q14 H hP hD hS => ?_)
  have hP : va_P DD vwCl [(h, .inr (0, [.int 0, .int 0, .int 0, .ref q3, .ref q4, .int 0, .ref q6, .ref q7, .ref q8, .ref q9, .int 0, .int 0, .int 0, .int 0, .null, .null, .null, .null])), (q3, .inl (dd, 324, .inl (fun _ => 0))), (q4, .inl (dd, 243, .inl (fun _ => 0))), (q6, .inl (dd, 8, .inl (fun _ => 0))), (q7, .inl (dd, 8, .inl (fun _ => 0))), (q8, .inl (dd, 81, .inl (fun _ => 0))), (q9, .inl (dd, 45, .inl (fun _ => 0))), (q14, .inl (dd, 8, .inl (fun _ => 0)))] H := hP
  have hD : va_D AA [(h, .inr (0, [.int 0, .int 0, .int 0, .ref q3, .ref q4, .int 0, .ref q6, .ref q7, .ref q8, .ref q9, .int 0, .int 0, .int 0, .int 0, .null, .null, .null, .null])), (q3, .inl (dd, 324, .inl (fun _ => 0))), (q4, .inl (dd, 243, .inl (fun _ => 0))), (q6, .inl (dd, 8, .inl (fun _ => 0))), (q7, .inl (dd, 8, .inl (fun _ => 0))), (q8, .inl (dd, 81, .inl (fun _ => 0))), (q9, .inl (dd, 45, .inl (fun _ => 0))), (q14, .inl (dd, 8, .inl (fun _ => 0)))] := hD
  refine va_putF (D := DD) (ci := 0) (v := .ref q14) (ty := .array .int) (C := RX1) (T := TX1) (N := 18) hx hb hts in_X1 tyX1 tyX1_ok nmX1 hown hK hP hD hS 0 rfl rfl 14 (by decide) (hts _ q52) (fun _ h9 => h9) rfl hin rfl (by decide +kernel) rfl rfl (Nat.le_of_ble_eq_true rfl) dX1_init_59 (fun H locs hP hD hS => ?_)
  have hP : va_P DD vwCl [(h, .inr (0, [.int 0, .int 0, .int 0, .ref q3, .ref q4, .int 0, .ref q6, .ref q7, .ref q8, .ref q9, .int 0, .int 0, .int 0, .int 0, .ref q14, .null, .null, .null])), (q3, .inl (dd, 324, .inl (fun _ => 0))), (q4, .inl (dd, 243, .inl (fun _ => 0))), (q6, .inl (dd, 8, .inl (fun _ => 0))), (q7, .inl (dd, 8, .inl (fun _ => 0))), (q8, .inl (dd, 81, .inl (fun _ => 0))), (q9, .inl (dd, 45, .inl (fun _ => 0))), (q14, .inl (dd, 8, .inl (fun _ => 0)))] H := hP
  have hD : va_D AA [(h, .inr (0, [.int 0, .int 0, .int 0, .ref q3, .ref q4, .int 0, .ref q6, .ref q7, .ref q8, .ref q9, .int 0, .int 0, .int 0, .int 0, .ref q14, .null, .null, .null])), (q3, .inl (dd, 324, .inl (fun _ => 0))), (q4, .inl (dd, 243, .inl (fun _ => 0))), (q6, .inl (dd, 8, .inl (fun _ => 0))), (q7, .inl (dd, 8, .inl (fun _ => 0))), (q8, .inl (dd, 81, .inl (fun _ => 0))), (q9, .inl (dd, 45, .inl (fun _ => 0))), (q14, .inl (dd, 8, .inl (fun _ => 0)))] := hD
  refine lv_aload_n hx hb dX1_init_62 rfl (lv_at hl 0 rfl) ?_
  refine lv_sipush (v := nI 648) hx hb dX1_init_63 (by decide) ?_
  refine va_newi hx hb (hts _ q93) hK hP hD hS hA 648 (by decide) (Nat.le_of_ble_eq_true rfl) (Nat.le_of_ble_eq_true rfl) dX1_init_66 (fun q15 H hP hD hS => ?_)
  have hP : va_P DD vwCl [(h, .inr (0, [.int 0, .int 0, .int 0, .ref q3, .ref q4, .int 0, .ref q6, .ref q7, .ref q8, .ref q9, .int 0, .int 0, .int 0, .int 0, .ref q14, .null, .null, .null])), (q3, .inl (dd, 324, .inl (fun _ => 0))), (q4, .inl (dd, 243, .inl (fun _ => 0))), (q6, .inl (dd, 8, .inl (fun _ => 0))), (q7, .inl (dd, 8, .inl (fun _ => 0))), (q8, .inl (dd, 81, .inl (fun _ => 0))), (q9, .inl (dd, 45, .inl (fun _ => 0))), (q14, .inl (dd, 8, .inl (fun _ => 0))), (q15, .inl (dd, 648, .inl (fun _ => 0)))] H := hP
  have hD : va_D AA [(h, .inr (0, [.int 0, .int 0, .int 0, .ref q3, .ref q4, .int 0, .ref q6, .ref q7, .ref q8, .ref q9, .int 0, .int 0, .int 0, .int 0, .ref q14, .null, .null, .null])), (q3, .inl (dd, 324, .inl (fun _ => 0))), (q4, .inl (dd, 243, .inl (fun _ => 0))), (q6, .inl (dd, 8, .inl (fun _ => 0))), (q7, .inl (dd, 8, .inl (fun _ => 0))), (q8, .inl (dd, 81, .inl (fun _ => 0))), (q9, .inl (dd, 45, .inl (fun _ => 0))), (q14, .inl (dd, 8, .inl (fun _ => 0))), (q15, .inl (dd, 648, .inl (fun _ => 0)))] := hD
  refine va_putF (D := DD) (ci := 0) (v := .ref q15) (ty := .array .int) (C := RX1) (T := TX1) (N := 18) hx hb hts in_X1 tyX1 tyX1_ok nmX1 hown hK hP hD hS 0 rfl rfl 15 (by decide) (hts _ q53) (fun _ h9 => h9) rfl hin rfl (by decide +kernel) rfl rfl (Nat.le_of_ble_eq_true rfl) dX1_init_68 (fun H locs hP hD hS => ?_)
  have hP : va_P DD vwCl [(h, .inr (0, [.int 0, .int 0, .int 0, .ref q3, .ref q4, .int 0, .ref q6, .ref q7, .ref q8, .ref q9, .int 0, .int 0, .int 0, .int 0, .ref q14, .ref q15, .null, .null])), (q3, .inl (dd, 324, .inl (fun _ => 0))), (q4, .inl (dd, 243, .inl (fun _ => 0))), (q6, .inl (dd, 8, .inl (fun _ => 0))), (q7, .inl (dd, 8, .inl (fun _ => 0))), (q8, .inl (dd, 81, .inl (fun _ => 0))), (q9, .inl (dd, 45, .inl (fun _ => 0))), (q14, .inl (dd, 8, .inl (fun _ => 0))), (q15, .inl (dd, 648, .inl (fun _ => 0)))] H := hP
  have hD : va_D AA [(h, .inr (0, [.int 0, .int 0, .int 0, .ref q3, .ref q4, .int 0, .ref q6, .ref q7, .ref q8, .ref q9, .int 0, .int 0, .int 0, .int 0, .ref q14, .ref q15, .null, .null])), (q3, .inl (dd, 324, .inl (fun _ => 0))), (q4, .inl (dd, 243, .inl (fun _ => 0))), (q6, .inl (dd, 8, .inl (fun _ => 0))), (q7, .inl (dd, 8, .inl (fun _ => 0))), (q8, .inl (dd, 81, .inl (fun _ => 0))), (q9, .inl (dd, 45, .inl (fun _ => 0))), (q14, .inl (dd, 8, .inl (fun _ => 0))), (q15, .inl (dd, 648, .inl (fun _ => 0)))] := hD
  refine lv_aload_n hx hb dX1_init_71 rfl (lv_at hl 0 rfl) ?_
  refine lv_sipush (v := nI 256) hx hb dX1_init_72 (by decide) ?_
  refine va_newi hx hb (hts _ q93) hK hP hD hS hA 256 (by decide) (Nat.le_of_ble_eq_true rfl) (Nat.le_of_ble_eq_true rfl) dX1_init_75 (fun q16 H hP hD hS => ?_)
  have hP : va_P DD vwCl [(h, .inr (0, [.int 0, .int 0, .int 0, .ref q3, .ref q4, .int 0, .ref q6, .ref q7, .ref q8, .ref q9, .int 0, .int 0, .int 0, .int 0, .ref q14, .ref q15, .null, .null])), (q3, .inl (dd, 324, .inl (fun _ => 0))), (q4, .inl (dd, 243, .inl (fun _ => 0))), (q6, .inl (dd, 8, .inl (fun _ => 0))), (q7, .inl (dd, 8, .inl (fun _ => 0))), (q8, .inl (dd, 81, .inl (fun _ => 0))), (q9, .inl (dd, 45, .inl (fun _ => 0))), (q14, .inl (dd, 8, .inl (fun _ => 0))), (q15, .inl (dd, 648, .inl (fun _ => 0))), (q16, .inl (dd, 256, .inl (fun _ => 0)))] H := hP
  have hD : va_D AA [(h, .inr (0, [.int 0, .int 0, .int 0, .ref q3, .ref q4, .int 0, .ref q6, .ref q7, .ref q8, .ref q9, .int 0, .int 0, .int 0, .int 0, .ref q14, .ref q15, .null, .null])), (q3, .inl (dd, 324, .inl (fun _ => 0))), (q4, .inl (dd, 243, .inl (fun _ => 0))), (q6, .inl (dd, 8, .inl (fun _ => 0))), (q7, .inl (dd, 8, .inl (fun _ => 0))), (q8, .inl (dd, 81, .inl (fun _ => 0))), (q9, .inl (dd, 45, .inl (fun _ => 0))), (q14, .inl (dd, 8, .inl (fun _ => 0))), (q15, .inl (dd, 648, .inl (fun _ => 0))), (q16, .inl (dd, 256, .inl (fun _ => 0)))] := hD
  refine va_putF (D := DD) (ci := 0) (v := .ref q16) (ty := .array .int) (C := RX1) (T := TX1) (N := 18) hx hb hts in_X1 tyX1 tyX1_ok nmX1 hown hK hP hD hS 0 rfl rfl 16 (by decide) (hts _ q54) (fun _ h9 => h9) rfl hin rfl (by decide +kernel) rfl rfl (Nat.le_of_ble_eq_true rfl) dX1_init_77 (fun H locs hP hD hS => ?_)
  have hP : va_P DD vwCl [(h, .inr (0, [.int 0, .int 0, .int 0, .ref q3, .ref q4, .int 0, .ref q6, .ref q7, .ref q8, .ref q9, .int 0, .int 0, .int 0, .int 0, .ref q14, .ref q15, .ref q16, .null])), (q3, .inl (dd, 324, .inl (fun _ => 0))), (q4, .inl (dd, 243, .inl (fun _ => 0))), (q6, .inl (dd, 8, .inl (fun _ => 0))), (q7, .inl (dd, 8, .inl (fun _ => 0))), (q8, .inl (dd, 81, .inl (fun _ => 0))), (q9, .inl (dd, 45, .inl (fun _ => 0))), (q14, .inl (dd, 8, .inl (fun _ => 0))), (q15, .inl (dd, 648, .inl (fun _ => 0))), (q16, .inl (dd, 256, .inl (fun _ => 0)))] H := hP
  have hD : va_D AA [(h, .inr (0, [.int 0, .int 0, .int 0, .ref q3, .ref q4, .int 0, .ref q6, .ref q7, .ref q8, .ref q9, .int 0, .int 0, .int 0, .int 0, .ref q14, .ref q15, .ref q16, .null])), (q3, .inl (dd, 324, .inl (fun _ => 0))), (q4, .inl (dd, 243, .inl (fun _ => 0))), (q6, .inl (dd, 8, .inl (fun _ => 0))), (q7, .inl (dd, 8, .inl (fun _ => 0))), (q8, .inl (dd, 81, .inl (fun _ => 0))), (q9, .inl (dd, 45, .inl (fun _ => 0))), (q14, .inl (dd, 8, .inl (fun _ => 0))), (q15, .inl (dd, 648, .inl (fun _ => 0))), (q16, .inl (dd, 256, .inl (fun _ => 0)))] := hD
  refine lv_aload_n hx hb dX1_init_80 rfl (lv_at hl 0 rfl) ?_
  refine lv_bipush (v := nI 45) hx hb dX1_init_81 (by decide) ?_
  refine va_newi hx hb (hts _ q93) hK hP hD hS hA 45 (by decide) (Nat.le_of_ble_eq_true rfl) (Nat.le_of_ble_eq_true rfl) dX1_init_83 (fun q17 H hP hD hS => ?_)
  have hP : va_P DD vwCl [(h, .inr (0, [.int 0, .int 0, .int 0, .ref q3, .ref q4, .int 0, .ref q6, .ref q7, .ref q8, .ref q9, .int 0, .int 0, .int 0, .int 0, .ref q14, .ref q15, .ref q16, .null])), (q3, .inl (dd, 324, .inl (fun _ => 0))), (q4, .inl (dd, 243, .inl (fun _ => 0))), (q6, .inl (dd, 8, .inl (fun _ => 0))), (q7, .inl (dd, 8, .inl (fun _ => 0))), (q8, .inl (dd, 81, .inl (fun _ => 0))), (q9, .inl (dd, 45, .inl (fun _ => 0))), (q14, .inl (dd, 8, .inl (fun _ => 0))), (q15, .inl (dd, 648, .inl (fun _ => 0))), (q16, .inl (dd, 256, .inl (fun _ => 0))), (q17, .inl (dd, 45, .inl (fun _ => 0)))] H := hP
  have hD : va_D AA [(h, .inr (0, [.int 0, .int 0, .int 0, .ref q3, .ref q4, .int 0, .ref q6, .ref q7, .ref q8, .ref q9, .int 0, .int 0, .int 0, .int 0, .ref q14, .ref q15, .ref q16, .null])), (q3, .inl (dd, 324, .inl (fun _ => 0))), (q4, .inl (dd, 243, .inl (fun _ => 0))), (q6, .inl (dd, 8, .inl (fun _ => 0))), (q7, .inl (dd, 8, .inl (fun _ => 0))), (q8, .inl (dd, 81, .inl (fun _ => 0))), (q9, .inl (dd, 45, .inl (fun _ => 0))), (q14, .inl (dd, 8, .inl (fun _ => 0))), (q15, .inl (dd, 648, .inl (fun _ => 0))), (q16, .inl (dd, 256, .inl (fun _ => 0))), (q17, .inl (dd, 45, .inl (fun _ => 0)))] := hD
  refine va_putF (D := DD) (ci := 0) (v := .ref q17) (ty := .array .int) (C := RX1) (T := TX1) (N := 18) hx hb hts in_X1 tyX1 tyX1_ok nmX1 hown hK hP hD hS 0 rfl rfl 17 (by decide) (hts _ q55) (fun _ h9 => h9) rfl hin rfl (by decide +kernel) rfl rfl (Nat.le_of_ble_eq_true rfl) dX1_init_85 (fun H locs hP hD hS => ?_)
  have hP : va_P DD vwCl [(h, .inr (0, [.int 0, .int 0, .int 0, .ref q3, .ref q4, .int 0, .ref q6, .ref q7, .ref q8, .ref q9, .int 0, .int 0, .int 0, .int 0, .ref q14, .ref q15, .ref q16, .ref q17])), (q3, .inl (dd, 324, .inl (fun _ => 0))), (q4, .inl (dd, 243, .inl (fun _ => 0))), (q6, .inl (dd, 8, .inl (fun _ => 0))), (q7, .inl (dd, 8, .inl (fun _ => 0))), (q8, .inl (dd, 81, .inl (fun _ => 0))), (q9, .inl (dd, 45, .inl (fun _ => 0))), (q14, .inl (dd, 8, .inl (fun _ => 0))), (q15, .inl (dd, 648, .inl (fun _ => 0))), (q16, .inl (dd, 256, .inl (fun _ => 0))), (q17, .inl (dd, 45, .inl (fun _ => 0)))] H := hP
  have hD : va_D AA [(h, .inr (0, [.int 0, .int 0, .int 0, .ref q3, .ref q4, .int 0, .ref q6, .ref q7, .ref q8, .ref q9, .int 0, .int 0, .int 0, .int 0, .ref q14, .ref q15, .ref q16, .ref q17])), (q3, .inl (dd, 324, .inl (fun _ => 0))), (q4, .inl (dd, 243, .inl (fun _ => 0))), (q6, .inl (dd, 8, .inl (fun _ => 0))), (q7, .inl (dd, 8, .inl (fun _ => 0))), (q8, .inl (dd, 81, .inl (fun _ => 0))), (q9, .inl (dd, 45, .inl (fun _ => 0))), (q14, .inl (dd, 8, .inl (fun _ => 0))), (q15, .inl (dd, 648, .inl (fun _ => 0))), (q16, .inl (dd, 256, .inl (fun _ => 0))), (q17, .inl (dd, 45, .inl (fun _ => 0)))] := hD
  have I : iG wX DD dd AA s.heap h (fun k => if k = 3 then q3 else if k = 4 then q4 else if k = 6 then q6 else if k = 7 then q7 else if k = 8 then q8 else if k = 9 then q9 else if k = 14 then q14 else if k = 15 then q15 else if k = 16 then q16 else q17) (fun _ => 0) (fun _ _ => 0) H locs := ⟨hP, hD, hS⟩
  clear hP hD hS
  generalize (fun k => if k = 3 then q3 else if k = 4 then q4 else if k = 6 then q6 else if k = 7 then q7 else if k = 8 then q8 else if k = 9 then q9 else if k = 14 then q14 else if k = 15 then q15 else if k = 16 then q16 else q17) = a at I
  have C : kC p s m _ meth cd cX1_init 8 RX1 DD dd AA := ⟨hx, hb, hml, hown, hts, hK, B0.notSynchronized, hA⟩
  refine W.widen (k := 10) (n := 1666) (Nat.le_of_ble_eq_true rfl) (Nat.le_of_ble_eq_true rfl) ?_
  exact initX_B x y C hin I hl (fun f' r' H locs pc ls hdg I hp => W.vret hx hb B0.returns (fun t ht hW => ⟨⟨(a, (f', r')), rfl, hp, by rw [ht]; exact I.1, I.2.1⟩, I.2.2.F ht⟩) I.2.2.2.2 hdg B0.notSynchronized)
end
section
set_option maxRecDepth 100000
abbrev rmM : Room := { frames := 3, cells := 6, slots := 6901, locals := 90 }
/-- a fresh object -/
def wM0 (h : Nat) : va_W := [(h, .inr (1, [.int 0, .int 0, .int 0, .null, .null, .int 0, .null, .int 0, .null, .null, .null]))]
set_option maxHeartbeats 4000000 in
set_option maxRecDepth 100000 in
theorem initM_B {p : Program} {l : Launch} {ee : Env} {s : State} {m : MethodId} {args : Array Value} {below : List Frame} {meth : Method} {cd : Code} {DD : va_G} {dd : ClassId} {AA : Nat → Prop} {h : Nat} {a : Nat → Nat} {Q : State → Prop} {H : Heap} {locs : List Loc} {ls : Array Slot} (x y : Int32) (C : kC p s m args meth cd cX2_init 5 RX2 DD dd AA) (hin : meth.name = "<init>") (I : iG wM DD dd AA s.heap h a (fun _ => 0) (fun _ _ => 0) H locs) (hl : lv_has ls 5 [(0, .ref h), (1, .int x), (2, .int y)])
    (ret : ∀ (f' : Nat → Int32) (r' : Nat → Nat → Int32) (H : Heap) (locs : List Loc) (pc : Nat) (ls : Array Slot), decode cX2_init pc = .ok (.return_, 1) → iG wM DD dd AA s.heap h a f' r' H locs → stM (cbClamp 4 x) (cbClamp 3 y) (cbClamp 3 y ^ cbClamp 4 x) 0 (fun _ => 0) (fun _ => 0) f' r' → W p l ee rmM s m args below meth cd H locs 6 6901 Q (F0 m pc ls [])) : W p l ee rmM s m args below meth cd H locs 6 6901 Q (F0 m 54 ls []) := by
  have hx := C.1
  have hb := C.2.1
  obtain ⟨f, hf⟩ : ∃ f : Nat → Int32, f = fun _ => 0 := ⟨_, rfl⟩
  obtain ⟨r, hr⟩ : ∃ r : Nat → Nat → Int32, r = fun _ _ => 0 := ⟨_, rfl⟩
  obtain ⟨L, hL⟩ : ∃ L, L = cbClamp 4 x := ⟨_, rfl⟩
  obtain ⟨D, hD⟩ : ∃ D, D = cbClamp 3 y := ⟨_, rfl⟩
  rw [← hL, ← hD] at ret
  rw [← hr, ← hf] at I
  obtain ⟨hL1, hL4⟩ : 1 ≤ L ∧ L ≤ 4 := by rw [hL]; exact cbClamp_in (by decide) (by decide) x
  obtain ⟨hD1, hD3⟩ : 1 ≤ D ∧ D ≤ 3 := by rw [hD]; exact cbClamp_in (by decide) (by decide) y
  have hN81 : D ^ L ≤ 81 := cbPow_le D hD3 L hL4
  have hN1 : 1 ≤ D ^ L := Nat.one_le_pow _ _ hD1
  have hPle : ∀ i, i ≤ L → D ^ i ≤ 81 := fun i hi => cbPow_le D hD3 i (by omega)
  refine lv_aload_n hx hb dX2_init_54 rfl (lv_at hl 0 rfl) ?_
  refine lv_iload_n hx hb dX2_init_55 rfl (lv_at hl 1 rfl) ?_
  refine lv_iconst (v := nI 1) hx hb dX2_init_56 (by decide) ?_
  have join74 : W p l ee rmM s m args below meth cd H locs 6 6901 Q (F0 m 74 ls [.int (nI L), .ref h]) := by
    refine pM_0 C I hin dX2_init_74 (fun H locs fA efA ofA I => ?_)
    refine lv_aload_n hx hb dX2_init_77 rfl (lv_at hl 0 rfl) ?_
    refine lv_iload_n hx hb dX2_init_78 rfl (lv_at hl 2 rfl) ?_
    refine lv_iconst (v := nI 1) hx hb dX2_init_79 (by decide) ?_
    have join97 : W p l ee rmM s m args below meth cd H locs 6 6901 Q (F0 m 97 ls [.int (nI D), .ref h]) := by
      refine pM_1 C I hin dX2_init_97 (fun H locs fB efB ofB I => ?_)
      refine lv_iconst (v := nI 1) hx hb dX2_init_100 (by decide) ?_
      refine lv_istore_n (lv' := [(3, .int (nI 1)), (0, .ref h), (1, .int (x)), (2, .int (y))]) hx hb dX2_init_101 rfl hl (by decide) rfl (fun ls hl => ?_)
      refine lv_iconst (v := nI 0) hx hb dX2_init_102 (by decide) ?_
      refine lv_istore (lv' := [(4, .int (nI 0)), (3, .int (nI 1)), (0, .ref h), (1, .int (x)), (2, .int (y))]) hx hb dX2_init_103 hl (by decide) rfl (fun ls hl => ?_)
      have loop105 : ∀ (n : Nat) (i : Nat) (H : Heap) (locs : List Loc) (ls : Array Slot), (L < i + n) → (i ≤ L) → iG wM DD dd AA s.heap h a fB r H locs → lv_has ls 5 [(0, .ref h), (3, .int (nI (D ^ i))), (4, .int (nI i))] → W p l ee rmM s m args below meth cd H locs 6 6901 Q (F0 m 105 ls []) := by
        intro n
        induction n with
        | zero =>
          intros; exfalso; omega
        | succ n ih =>
          intro i H locs ls h1 h2 I hl
          refine lv_iload hx hb dX2_init_105 (lv_at hl 2 rfl) ?_
          refine lv_aload_n hx hb dX2_init_107 rfl (lv_at hl 0 rfl) ?_
          refine gM_0 C I (v := nI (L)) (by rw [ofB 0 (by decide)]; exact efA) dX2_init_108 ?_
          refine n_icge (tgt := 127) hx hb (by omega) (by omega) dX2_init_111 (by decide) (fun c111 => ?_) (fun c111 => ?_)
          · have e9 : L = i := by omega
            subst e9
            refine lv_aload_n hx hb dX2_init_127 rfl (lv_at hl 0 rfl) ?_
            refine lv_iload_n hx hb dX2_init_128 rfl (lv_at hl 1 rfl) ?_
            refine pM_2 C I hin dX2_init_129 (fun H locs fC efC ofC I => ?_)
            have f0 : fC 0 = nI L := by rw [ofC 0 (by decide), ofB 0 (by decide)]; exact efA
            have f1 : fC 1 = nI D := by rw [ofC 1 (by decide)]; exact efB
            have f5 : fC 5 = nI 0 := by rw [ofC 5 (by decide), ofB 5 (by decide), ofA 5 (by decide), hf]; rfl
            obtain ⟨N, hN⟩ : ∃ N, N = D ^ L := ⟨_, rfl⟩
            rw [← hN] at efC hN81 hN1 hl ret
            have gm : geoM L D N fC r := ⟨⟨hL1, hL4, hD1, hD3, hN1, hN81, hN⟩, f0, f1, efC⟩
            have hNN : N * N ≤ 6561 := Nat.mul_le_mul hN81 hN81
            refine lv_iconst (v := nI 0) hx hb dX2_init_132 (by decide) ?_
            refine lv_istore (lv' := [(4, .int (nI 0)), (0, .ref h), (3, .int (nI N))]) hx hb dX2_init_133 hl (by decide) rfl (fun ls hl => ?_)
            have loop135 : ∀ (n : Nat) (z : Nat) (rL : Nat → Nat → Int32) (H : Heap) (locs : List Loc) (ls : Array Slot), (N * N < z + n) → (z ≤ N * N) → (∀ k, k ≠ 10 → rL k = r k) → (∀ v, v < z → rL 10 (81 * (v / N) + v % N) = nI (cbAns L D (v / N) (v % N))) → iG wM DD dd AA s.heap h a fC rL H locs → lv_has ls 5 [(0, .ref h), (3, .int (nI N)), (4, .int (nI z))] → W p l ee rmM s m args below meth cd H locs 6 6901 Q (F0 m 135 ls []) := by
              intro n
              induction n with
              | zero =>
                intros; exfalso; omega
              | succ n ih =>
                intro z rL H locs ls h1 h2 hrL t9 I hl
                have gmL : geoM L D N fC rL := gm
                refine lv_iload hx hb dX2_init_135 (lv_at hl 2 rfl) ?_
                refine lv_aload_n hx hb dX2_init_137 rfl (lv_at hl 0 rfl) ?_
                refine gM_2 C I (v := nI (N)) (efC) dX2_init_138 ?_
                refine lv_aload_n hx hb dX2_init_141 rfl (lv_at hl 0 rfl) ?_
                refine gM_2 C I (v := nI (N)) (efC) dX2_init_142 ?_
                refine n_mul hx hb dX2_init_145 ?_
                refine n_icge (tgt := 196) hx hb (by omega) (by omega) dX2_init_146 (by decide) (fun c146 => ?_) (fun c146 => ?_)
                · exact ret _ _ _ _ _ _ dX2_init_196 I (by
                    refine ⟨gm, fun g q hg hq => ?_, by omega, f5, fun k hk => absurd hk (Nat.not_lt_zero k)⟩
                    have e1 : (N * g + q) / N = g := by rw [Nat.mul_add_div hN1, Nat.div_eq_of_lt hq, Nat.add_zero]
                    have e2 : (N * g + q) % N = q := by rw [Nat.mul_add_mod, Nat.mod_eq_of_lt hq]
                    have e3 : N * g + q < N * N := by
                      have : N * (g + 1) ≤ N * N := Nat.mul_le_mul_left N hg
                      rw [Nat.mul_add, Nat.mul_one] at this
                      omega
                    have := t9 (N * g + q) (by omega)
                    rw [e1, e2] at this
                    exact this)
                · have hz1 : z / N < N := Nat.div_lt_of_lt_mul c146
                  have hz2 : z % N < N := Nat.mod_lt _ hN1
                  refine lv_aload_n hx hb dX2_init_149 rfl (lv_at hl 0 rfl) ?_
                  refine gM_10 C I dX2_init_150 ?_
                  refine lv_iload hx hb dX2_init_153 (lv_at hl 2 rfl) ?_
                  refine lv_aload_n hx hb dX2_init_155 rfl (lv_at hl 0 rfl) ?_
                  refine gM_2 C I (v := nI (N)) (efC) dX2_init_156 ?_
                  refine n_div hx hb (by omega) (by omega) (by omega) dX2_init_159 ?_
                  refine lv_bipush (v := nI 81) hx hb dX2_init_160 (by decide) ?_
                  refine n_mul hx hb dX2_init_162 ?_
                  refine lv_iload hx hb dX2_init_163 (lv_at hl 2 rfl) ?_
                  refine lv_aload_n hx hb dX2_init_165 rfl (lv_at hl 0 rfl) ?_
                  refine gM_2 C I (v := nI (N)) (efC) dX2_init_166 ?_
                  refine n_rem hx hb (by omega) (by omega) (by omega) dX2_init_169 ?_
                  refine n_add hx hb dX2_init_170 ?_
                  refine lv_aload_n hx hb dX2_init_171 rfl (lv_at hl 0 rfl) ?_
                  refine lv_iload hx hb dX2_init_172 (lv_at hl 2 rfl) ?_
                  refine lv_aload_n hx hb dX2_init_174 rfl (lv_at hl 0 rfl) ?_
                  refine gM_2 C I (v := nI (N)) (efC) dX2_init_175 ?_
                  refine n_div hx hb (by omega) (by omega) (by omega) dX2_init_178 ?_
                  refine lv_iload hx hb dX2_init_179 (lv_at hl 2 rfl) ?_
                  refine lv_aload_n hx hb dX2_init_181 rfl (lv_at hl 0 rfl) ?_
                  refine gM_2 C I (v := nI (N)) (efC) dX2_init_182 ?_
                  refine n_rem hx hb (by omega) (by omega) (by omega) dX2_init_185 ?_
                  refine mG_call (q := (RX2, TX2, 11)) (ci := 1) C I (metM_compare l DD dd h a fC rL (z / N) (z % N) gmL (by omega) (by omega)) ⟨_, rfl⟩ rfl cwM_Mcompare cdM_compare ⟨Nat.le_of_ble_eq_true rfl, Nat.le_of_ble_eq_true rfl⟩ ⟨rfl, rfl⟩ rfl hl.1 (Nat.le_of_ble_eq_true rfl) dX2_init_186 ⟨Nat.le_of_ble_eq_true rfl, Nat.le_of_ble_eq_true rfl⟩ rfl (fun v1 f1 r1 H locs hp1 I => ?_)
                  obtain ⟨ev1, ef1, er1⟩ := hp1
                  subst ev1
                  rw [ef1, er1] at I
                  refine stM_10 C I (81 * (z / N) + z % N) (by rw [Nat.mul_comm]) (by omega) dX2_init_189 (fun H locs rE erE orE I => ?_)
                  refine lv_iinc (v := nI (z + 1)) (lv' := [(4, .int (nI (z + 1))), (0, .ref h), (3, .int (nI N))]) hx hb dX2_init_190 hl (k := 2) rfl (nI_1 _) (by decide) rfl (fun ls hl => ?_)
                  refine lv_goto (tgt := 135) hx hb dX2_init_193 (by decide) ?_
                  refine ih (z + 1) _ _ _ _ (by omega) (by omega) (fun k hk => (orE k hk).trans (hrL k hk)) ?_ I (lv_sub hl [1, 2, 0] rfl)
                  intro v hv
                  rw [erE]
                  by_cases he : v = z
                  · subst he; rw [pk_us]
                  · have hne : 81 * (v / N) + v % N ≠ 81 * (z / N) + z % N := fun q => he (by
                      have q1 : v % N < N := Nat.mod_lt _ hN1
                      obtain ⟨e1, e2⟩ : v / N = z / N ∧ v % N = z % N := by omega
                      rw [← Nat.div_add_mod v N, ← Nat.div_add_mod z N, e1, e2])
                    rw [pk_un hne]; exact t9 v (by omega)
            exact loop135 (N * N + 1) 0 _ _ _ _ (by omega) (by omega) (fun _ _ => rfl) (fun v hv => absurd hv (Nat.not_lt_zero v)) I (lv_sub hl [1, 2, 0] rfl)
          · refine lv_iload_n hx hb dX2_init_114 rfl (lv_at hl 1 rfl) ?_
            refine lv_aload_n hx hb dX2_init_115 rfl (lv_at hl 0 rfl) ?_
            refine gM_1 C I (v := nI (D)) (efB) dX2_init_116 ?_
            refine n_mul hx hb dX2_init_119 ?_
            refine lv_istore_n (lv' := [(3, .int (nI ((D ^ i) * D))), (0, .ref h), (4, .int (nI i))]) hx hb dX2_init_120 rfl hl (by decide) rfl (fun ls hl => ?_)
            refine lv_iinc (v := nI (i + 1)) (lv' := [(4, .int (nI (i + 1))), (3, .int (nI ((D ^ i) * D))), (0, .ref h)]) hx hb dX2_init_121 hl (k := 2) rfl (nI_1 _) (by decide) rfl (fun ls hl => ?_)
            refine lv_goto (tgt := 105) hx hb dX2_init_124 (by decide) ?_
            exact ih (i + 1) _ _ _ (by omega) (by omega) I (lv_sub hl [2, 1, 0] rfl)
      exact loop105 (L + 1) 0 _ _ _ (by omega) (by omega) I (lv_sub hl [2, 1, 0] rfl)
    refine lv_icmp_ge (tgt := 87) hx hb dX2_init_80 (by decide) (fun c80 => ?_) (fun c80 => ?_)
    · refine lv_iload_n hx hb dX2_init_87 rfl (lv_at hl 2 rfl) ?_
      refine lv_iconst (v := nI 3) hx hb dX2_init_88 (by decide) ?_
      refine lv_icmp_le (tgt := 96) hx hb dX2_init_89 (by decide) (fun c89 => ?_) (fun c89 => ?_)
      · refine lv_iload_n hx hb dX2_init_96 rfl (lv_at hl 2 rfl) ?_
        refine w_top (v := nI (D)) (by rw [hD]; exact (cbClamp_v c80 c89 (by decide)).1) ?_
        exact join97
      · refine lv_iconst (v := nI 3) hx hb dX2_init_92 (by decide) ?_
        refine lv_goto (tgt := 97) hx hb dX2_init_93 (by decide) ?_
        refine w_top (v := nI (D)) (by rw [hD, cbClamp_hi c80 c89]) ?_
        exact join97
    · refine lv_iconst (v := nI 1) hx hb dX2_init_83 (by decide) ?_
      refine lv_goto (tgt := 97) hx hb dX2_init_84 (by decide) ?_
      refine w_top (v := nI (D)) (by rw [hD, cbClamp_lo c80]) ?_
      exact join97
  refine lv_icmp_ge (tgt := 64) hx hb dX2_init_57 (by decide) (fun c57 => ?_) (fun c57 => ?_)
  · refine lv_iload_n hx hb dX2_init_64 rfl (lv_at hl 1 rfl) ?_
    refine lv_iconst (v := nI 4) hx hb dX2_init_65 (by decide) ?_
    refine lv_icmp_le (tgt := 73) hx hb dX2_init_66 (by decide) (fun c66 => ?_) (fun c66 => ?_)
    · refine lv_iload_n hx hb dX2_init_73 rfl (lv_at hl 1 rfl) ?_
      refine w_top (v := nI (L)) (by rw [hL]; exact (cbClamp_v c57 c66 (by decide)).1) ?_
      exact join74
    · refine lv_iconst (v := nI 4) hx hb dX2_init_69 (by decide) ?_
      refine lv_goto (tgt := 74) hx hb dX2_init_70 (by decide) ?_
      refine w_top (v := nI (L)) (by rw [hL, cbClamp_hi c57 c66]) ?_
      exact join74
  · refine lv_iconst (v := nI 1) hx hb dX2_init_60 (by decide) ?_
    refine lv_goto (tgt := 74) hx hb dX2_init_61 (by decide) ?_
    refine w_top (v := nI (L)) (by rw [hL, cbClamp_lo c57]) ?_
    exact join74
set_option maxHeartbeats 4000000 in
set_option maxRecDepth 100000 in
theorem metM_init (l : Launch) (DD : va_G) (dd : ClassId) (h : Nat) (x y : Int32) (sz : Nat) : Met l yX2_init (ws_ yX2_init cX2_init 5 none) rmM (va_Pc [.ref h, .int x, .int y] (fun U => U.heap.size = sz ∧ va_P DD vwCl (wM0 h) U.heap ∧ va_K DD vwCl [(dd, .int)] U ∧ va_D (fun _ => True) (wM0 h))) (va_Qv (fun (u : (Nat → Nat) × sT) => stM (cbClamp 4 x) (cbClamp 3 y) (cbClamp 3 y ^ cbClamp 4 x) 0 (fun _ => 0) (fun _ => 0) u.2.1 u.2.2) (fun u t => va_P DD vwCl (wM h u.1 dd u.2.1 u.2.2) t.heap ∧ va_D (va_A (wM0 h) sz) (wM h u.1 dd u.2.1 u.2.2)) (va_A (wM0 h) sz)) 6 6901 (va_A (wM0 h) sz) := by
  refine Met.ofW (cc := cX2_init) (maxL := 5) (ret := none) (by decide) rfl ?_
  intro p ee s m args below meth cd s₁ B0 hml hv
  obtain ⟨rfl, hsz, hP, hK, hD0⟩ := hv
  have hx := B0.exec
  have hb := B0.bytes
  have hts := atoms_spec (ws := ws_ yX2_init cX2_init 5 none) B0.pre
  have hts : ∀ w ∈ lw_all, w.before _ s = true := fun w h => hts w (List.mem_cons_of_mem _ h)
  have hown : s.vm.findClass RX2 = some m.cls := findClass_of_methodNamed B0.named
  have hin : meth.name = "<init>" := (name_of_methodNamed B0.named B0.method).1
  subst hsz
  have hD := hD0.self (sz := s.heap.size)
  generalize hAe : va_A (wM0 h) s.heap.size = AA at hD ⊢
  have hA : ∀ q : Nat, s.heap.size ≤ q → AA q := fun q h => by rw [← hAe]; exact Or.inr h
  have hS : va_S AA s.heap s.heap [] := va_S.rf
  have hl := lv_entry ([.ref h, .int x, .int y]) (n := 5) (Nat.le_of_ble_eq_true rfl)
  rw [lg_entry_eq]
  generalize (lg_sl ([.ref h, .int x, .int y]) ++ List.replicate (5 - (lg_sl ([.ref h, .int x, .int y])).length) Slot.unset).toArray = ls at hl ⊢
  have hl : lv_has ls 5 [(0, .ref h), (1, .int x), (2, .int y)] := hl
  have hP : va_P DD vwCl [(h, .inr (1, [.int 0, .int 0, .int 0, .null, .null, .int 0, .null, .int 0, .null, .null, .null]))] s.heap := hP
  have hD : va_D AA [(h, .inr (1, [.int 0, .int 0, .int 0, .null, .null, .int 0, .null, .int 0, .null, .null, .null]))] := hD
  refine lv_aload_n hx hb dX2_init_0 rfl (lv_at hl 0 rfl) ?_
  refine W.objInit hx hb hown (hts _ q215) (hts _ q36) (hts _ q37) rfl (by rw [hml]; exact hl.1) rfl dX2_init_1 (Nat.le_of_ble_eq_true rfl) (Nat.le_of_ble_eq_true rfl) ?_
  refine W.eq (g2 := F0 m 4 ls []) rfl ?_
  refine lv_aload_n hx hb dX2_init_4 rfl (lv_at hl 0 rfl) ?_
  refine lv_bipush (v := nI 8) hx hb dX2_init_5 (by decide) ?_
  refine va_newi hx hb (hts _ q93) hK hP hD hS hA 8 (by decide) (Nat.le_of_ble_eq_true rfl) (Nat.le_of_ble_eq_true rfl) dX2_init_7 (fun q3 H hP hD hS => ?_)
  have hP : va_P DD vwCl [(h, .inr (1, [.int 0, .int 0, .int 0, .null, .null, .int 0, .null, .int 0, .null, .null, .null])), (q3, .inl (dd, 8, .inl (fun _ => 0)))] H := hP
  have hD : va_D AA [(h, .inr (1, [.int 0, .int 0, .int 0, .null, .null, .int 0, .null, .int 0, .null, .null, .null])), (q3, .inl (dd, 8, .inl (fun _ => 0)))] := hD
  refine va_putF (D := DD) (ci := 1) (v := .ref q3) (ty := .array .int) (C := RX2) (T := TX2) (N := 11) hx hb hts in_X2 tyX2 tyX2_ok nmX2 hown hK hP hD hS 0 rfl rfl 3 (by decide) (hts _ q231) (fun _ h9 => h9) rfl hin rfl (by decide +kernel) rfl rfl (Nat.le_of_ble_eq_true rfl) dX2_init_9 (fun H locs hP hD hS => ?_)
  have hP : va_P DD vwCl [(h, .inr (1, [.int 0, .int 0, .int 0, .ref q3, .null, .int 0, .null, .int 0, .null, .null, .null])), (q3, .inl (dd, 8, .inl (fun _ => 0)))] H := hP
  have hD : va_D AA [(h, .inr (1, [.int 0, .int 0, .int 0, .ref q3, .null, .int 0, .null, .int 0, .null, .null, .null])), (q3, .inl (dd, 8, .inl (fun _ => 0)))] := hD
  refine lv_aload_n hx hb dX2_init_12 rfl (lv_at hl 0 rfl) ?_
  refine lv_bipush (v := nI 8) hx hb dX2_init_13 (by decide) ?_
  refine va_newi hx hb (hts _ q93) hK hP hD hS hA 8 (by decide) (Nat.le_of_ble_eq_true rfl) (Nat.le_of_ble_eq_true rfl) dX2_init_15 (fun q4 H hP hD hS => ?_)
  have hP : va_P DD vwCl [(h, .inr (1, [.int 0, .int 0, .int 0, .ref q3, .null, .int 0, .null, .int 0, .null, .null, .null])), (q3, .inl (dd, 8, .inl (fun _ => 0))), (q4, .inl (dd, 8, .inl (fun _ => 0)))] H := hP
  have hD : va_D AA [(h, .inr (1, [.int 0, .int 0, .int 0, .ref q3, .null, .int 0, .null, .int 0, .null, .null, .null])), (q3, .inl (dd, 8, .inl (fun _ => 0))), (q4, .inl (dd, 8, .inl (fun _ => 0)))] := hD
  refine va_putF (D := DD) (ci := 1) (v := .ref q4) (ty := .array .int) (C := RX2) (T := TX2) (N := 11) hx hb hts in_X2 tyX2 tyX2_ok nmX2 hown hK hP hD hS 0 rfl rfl 4 (by decide) (hts _ q232) (fun _ h9 => h9) rfl hin rfl (by decide +kernel) rfl rfl (Nat.le_of_ble_eq_true rfl) dX2_init_17 (fun H locs hP hD hS => ?_)
  have hP : va_P DD vwCl [(h, .inr (1, [.int 0, .int 0, .int 0, .ref q3, .ref q4, .int 0, .null, .int 0, .null, .null, .null])), (q3, .inl (dd, 8, .inl (fun _ => 0))), (q4, .inl (dd, 8, .inl (fun _ => 0)))] H := hP
  have hD : va_D AA [(h, .inr (1, [.int 0, .int 0, .int 0, .ref q3, .ref q4, .int 0, .null, .int 0, .null, .null, .null])), (q3, .inl (dd, 8, .inl (fun _ => 0))), (q4, .inl (dd, 8, .inl (fun _ => 0)))] := hD
  refine lv_aload_n hx hb dX2_init_20 rfl (lv_at hl 0 rfl) ?_
  refine lv_bipush (v := nI 8) hx hb dX2_init_21 (by decide) ?_
  refine va_newi hx hb (hts _ q93) hK hP hD hS hA 8 (by decide) (Nat.le_of_ble_eq_true rfl) (Nat.le_of_ble_eq_true rfl) dX2_init_23 (fun q6 H hP hD hS => ?_)
  have hP : va_P DD vwCl [(h, .inr (1, [.int 0, .int 0, .int 0, .ref q3, .ref q4, .int 0, .null, .int 0, .null, .null, .null])), (q3, .inl (dd, 8, .inl (fun _ => 0))), (q4, .inl (dd, 8, .inl (fun _ => 0))), (q6, .inl (dd, 8, .inl (fun _ => 0)))] H := hP
  have hD : va_D AA [(h, .inr (1, [.int 0, .int 0, .int 0, .ref q3, .ref q4, .int 0, .null, .int 0, .null, .null, .null])), (q3, .inl (dd, 8, .inl (fun _ => 0))), (q4, .inl (dd, 8, .inl (fun _ => 0))), (q6, .inl (dd, 8, .inl (fun _ => 0)))] := hD
  refine va_putF (D := DD) (ci := 1) (v := .ref q6) (ty := .array .int) (C := RX2) (T := TX2) (N := 11) hx hb hts in_X2 tyX2 tyX2_ok nmX2 hown hK hP hD hS 0 rfl rfl 6 (by decide) (hts _ q234) (fun _ h9 => h9) rfl hin rfl (by decide +kernel) rfl rfl (Nat.le_of_ble_eq_true rfl) dX2_init_25 (fun H locs hP hD hS => ?_)
  have hP : va_P DD vwCl [(h, .inr (1, [.int 0, .int 0, .int 0, .ref q3, .ref q4, .int 0, .ref q6, .int 0, .null, .null, .null])), (q3, .inl (dd, 8, .inl (fun _ => 0))), (q4, .inl (dd, 8, .inl (fun _ => 0))), (q6, .inl (dd, 8, .inl (fun _ => 0)))] H := hP
  have hD : va_D AA [(h, .inr (1, [.int 0, .int 0, .int 0, .ref q3, .ref q4, .int 0, .ref q6, .int 0, .null, .null, .null])), (q3, .inl (dd, 8, .inl (fun _ => 0))), (q4, .inl (dd, 8, .inl (fun _ => 0))), (q6, .inl (dd, 8, .inl (fun _ => 0)))] := hD
  refine lv_aload_n hx hb dX2_init_28 rfl (lv_at hl 0 rfl) ?_
  refine lv_sipush (v := nI 256) hx hb dX2_init_29 (by decide) ?_
  refine va_newi hx hb (hts _ q93) hK hP hD hS hA 256 (by decide) (Nat.le_of_ble_eq_true rfl) (Nat.le_of_ble_eq_true rfl) dX2_init_32 (fun q8 H hP hD hS => ?_)
  have hP : va_P DD vwCl [(h, .inr (1, [.int 0, .int 0, .int 0, .ref q3, .ref q4, .int 0, .ref q6, .int 0, .null, .null, .null])), (q3, .inl (dd, 8, .inl (fun _ => 0))), (q4, .inl (dd, 8, .inl (fun _ => 0))), (q6, .inl (dd, 8, .inl (fun _ => 0))), (q8, .inl (dd, 256, .inl (fun _ => 0)))] H := hP
  have hD : va_D AA [(h, .inr (1, [.int 0, .int 0, .int 0, .ref q3, .ref q4, .int 0, .ref q6, .int 0, .null, .null, .null])), (q3, .inl (dd, 8, .inl (fun _ => 0))), (q4, .inl (dd, 8, .inl (fun _ => 0))), (q6, .inl (dd, 8, .inl (fun _ => 0))), (q8, .inl (dd, 256, .inl (fun _ => 0)))] := hD
  refine va_putF (D := DD) (ci := 1) (v := .ref q8) (ty := .array .int) (C := RX2) (T := TX2) (N := 11) hx hb hts in_X2 tyX2 tyX2_ok nmX2 hown hK hP hD hS 0 rfl rfl 8 (by decide) (hts _ q236) (fun _ h9 => h9) rfl hin rfl (by decide +kernel) rfl rfl (Nat.le_of_ble_eq_true rfl) dX2_init_34 (fun H locs hP hD hS => ?_)
  have hP : va_P DD vwCl [(h, .inr (1, [.int 0, .int 0, .int 0, .ref q3, .ref q4, .int 0, .ref q6, .int 0, .ref q8, .null, .null])), (q3, .inl (dd, 8, .inl (fun _ => 0))), (q4, .inl (dd, 8, .inl (fun _ => 0))), (q6, .inl (dd, 8, .inl (fun _ => 0))), (q8, .inl (dd, 256, .inl (fun _ => 0)))] H := hP
  have hD : va_D AA [(h, .inr (1, [.int 0, .int 0, .int 0, .ref q3, .ref q4, .int 0, .ref q6, .int 0, .ref q8, .null, .null])), (q3, .inl (dd, 8, .inl (fun _ => 0))), (q4, .inl (dd, 8, .inl (fun _ => 0))), (q6, .inl (dd, 8, .inl (fun _ => 0))), (q8, .inl (dd, 256, .inl (fun _ => 0)))] := hD
  refine lv_aload_n hx hb dX2_init_37 rfl (lv_at hl 0 rfl) ?_
  refine lv_bipush (v := nI 60) hx hb dX2_init_38 (by decide) ?_
  refine va_newi hx hb (hts _ q93) hK hP hD hS hA 60 (by decide) (Nat.le_of_ble_eq_true rfl) (Nat.le_of_ble_eq_true rfl) dX2_init_40 (fun q9 H hP hD hS => ?_)
  have hP : va_P DD vwCl [(h, .inr (1, [.int 0, .int 0, .int 0, .ref q3, .ref q4, .int 0, .ref q6, .int 0, .ref q8, .null, .null])), (q3, .inl (dd, 8, .inl (fun _ => 0))), (q4, .inl (dd, 8, .inl (fun _ => 0))), (q6, .inl (dd, 8, .inl (fun _ => 0))), (q8, .inl (dd, 256, .inl (fun _ => 0))), (q9, .inl (dd, 60, .inl (fun _ => 0)))] H := hP
  have hD : va_D AA [(h, .inr (1, [.int 0, .int 0, .int 0, .ref q3, .ref q4, .int 0, .ref q6, .int 0, .ref q8, .null, .null])), (q3, .inl (dd, 8, .inl (fun _ => 0))), (q4, .inl (dd, 8, .inl (fun _ => 0))), (q6, .inl (dd, 8, .inl (fun _ => 0))), (q8, .inl (dd, 256, .inl (fun _ => 0))), (q9, .inl (dd, 60, .inl (fun _ => 0)))] := hD
  refine va_putF (D := DD) (ci := 1) (v := .ref q9) (ty := .array .int) (C := RX2) (T := TX2) (N := 11) hx hb hts in_X2 tyX2 tyX2_ok nmX2 hown hK hP hD hS 0 rfl rfl 9 (by decide) (hts _ q237) (fun _ h9 => h9) rfl hin rfl (by decide +kernel) rfl rfl (Nat.le_of_ble_eq_true rfl) dX2_init_42 (fun H locs hP hD hS => ?_)
  have hP : va_P DD vwCl [(h, .inr (1, [.int 0, .int 0, .int 0, .ref q3, .ref q4, .int 0, .ref q6, .int 0, .ref q8, .ref q9, .null])), (q3, .inl (dd, 8, .inl (fun _ => 0))), (q4, .inl (dd, 8, .inl (fun _ => 0))), (q6, .inl (dd, 8, .inl (fun _ => 0))), (q8, .inl (dd, 256, .inl (fun _ => 0))), (q9, .inl (dd, 60, .inl (fun _ => 0)))] H := hP
  have hD : va_D AA [(h, .inr (1, [.int 0, .int 0, .int 0, .ref q3, .ref q4, .int 0, .ref q6, .int 0, .ref q8, .ref q9, .null])), (q3, .inl (dd, 8, .inl (fun _ => 0))), (q4, .inl (dd, 8, .inl (fun _ => 0))), (q6, .inl (dd, 8, .inl (fun _ => 0))), (q8, .inl (dd, 256, .inl (fun _ => 0))), (q9, .inl (dd, 60, .inl (fun _ => 0)))] := hD
  refine lv_aload_n hx hb dX2_init_45 rfl (lv_at hl 0 rfl) ?_
  refine lv_sipush (v := nI 6561) hx hb dX2_init_46 (by decide) ?_
  refine va_newi hx hb (hts _ q93) hK hP hD hS hA 6561 (by decide) (Nat.le_of_ble_eq_true rfl) (Nat.le_of_ble_eq_true rfl) dX2_init_49 (fun q10 H hP hD hS => ?_)
  have hP : va_P DD vwCl [(h, .inr (1, [.int 0, .int 0, .int 0, .ref q3, .ref q4, .int 0, .ref q6, .int 0, .ref q8, .ref q9, .null])), (q3, .inl (dd, 8, .inl (fun _ => 0))), (q4, .inl (dd, 8, .inl (fun _ => 0))), (q6, .inl (dd, 8, .inl (fun _ => 0))), (q8, .inl (dd, 256, .inl (fun _ => 0))), (q9, .inl (dd, 60, .inl (fun _ => 0))), (q10, .inl (dd, 6561, .inl (fun _ => 0)))] H := hP
  have hD : va_D AA [(h, .inr (1, [.int 0, .int 0, .int 0, .ref q3, .ref q4, .int 0, .ref q6, .int 0, .ref q8, .ref q9, .null])), (q3, .inl (dd, 8, .inl (fun _ => 0))), (q4, .inl (dd, 8, .inl (fun _ => 0))), (q6, .inl (dd, 8, .inl (fun _ => 0))), (q8, .inl (dd, 256, .inl (fun _ => 0))), (q9, .inl (dd, 60, .inl (fun _ => 0))), (q10, .inl (dd, 6561, .inl (fun _ => 0)))] := hD
  refine va_putF (D := DD) (ci := 1) (v := .ref q10) (ty := .array .int) (C := RX2) (T := TX2) (N := 11) hx hb hts in_X2 tyX2 tyX2_ok nmX2 hown hK hP hD hS 0 rfl rfl 10 (by decide) (hts _ q238) (fun _ h9 => h9) rfl hin rfl (by decide +kernel) rfl rfl (Nat.le_of_ble_eq_true rfl) dX2_init_51 (fun H locs hP hD hS => ?_)
  have hP : va_P DD vwCl [(h, .inr (1, [.int 0, .int 0, .int 0, .ref q3, .ref q4, .int 0, .ref q6, .int 0, .ref q8, .ref q9, .ref q10])), (q3, .inl (dd, 8, .inl (fun _ => 0))), (q4, .inl (dd, 8, .inl (fun _ => 0))), (q6, .inl (dd, 8, .inl (fun _ => 0))), (q8, .inl (dd, 256, .inl (fun _ => 0))), (q9, .inl (dd, 60, .inl (fun _ => 0))), (q10, .inl (dd, 6561, .inl (fun _ => 0)))] H := hP
  have hD : va_D AA [(h, .inr (1, [.int 0, .int 0, .int 0, .ref q3, .ref q4, .int 0, .ref q6, .int 0, .ref q8, .ref q9, .ref q10])), (q3, .inl (dd, 8, .inl (fun _ => 0))), (q4, .inl (dd, 8, .inl (fun _ => 0))), (q6, .inl (dd, 8, .inl (fun _ => 0))), (q8, .inl (dd, 256, .inl (fun _ => 0))), (q9, .inl (dd, 60, .inl (fun _ => 0))), (q10, .inl (dd, 6561, .inl (fun _ => 0)))] := hD
  have I : iG wM DD dd AA s.heap h (fun k => if k = 3 then q3 else if k = 4 then q4 else if k = 6 then q6 else if k = 8 then q8 else if k = 9 then q9 else q10) (fun _ => 0) (fun _ _ => 0) H locs := ⟨hP, hD, hS⟩
  clear hP hD hS
  generalize (fun k => if k = 3 then q3 else if k = 4 then q4 else if k = 6 then q6 else if k = 8 then q8 else if k = 9 then q9 else q10) = a at I
  have C : kC p s m _ meth cd cX2_init 5 RX2 DD dd AA := ⟨hx, hb, hml, hown, hts, hK, B0.notSynchronized, hA⟩
  refine W.widen (k := 6) (n := 6901) (Nat.le_of_ble_eq_true rfl) (Nat.le_of_ble_eq_true rfl) ?_
  exact initM_B x y C hin I hl (fun f' r' H locs pc ls hdg I hp => W.vret hx hb B0.returns (fun t ht hW => ⟨⟨(a, (f', r')), rfl, hp, by rw [ht]; exact I.1, I.2.1⟩, I.2.2.F ht⟩) I.2.2.2.2 hdg B0.notSynchronized)
end
section
/-! ===== the law's own rows: two objects side by side, cell, calls through an object ===== -/
section LAWROWS
variable {p : Program} {l : Launch} {e : Env} {R : Room} {s : State} {m : MethodId} {args : Array Value} {below : List Frame} {meth : Method} {c : Code} {H : Heap} {locs : List Loc} {cells slots : Nat} {Q : State → Prop}
variable {cc : ByteArray} {pc nL : Nat} {ls : Array Slot} {rest : List Value} {D : va_G} {d : ClassId} {A : Nat → Prop} {h : Nat} {a : Nat → Nat} {f : Nat → Int32} {r : Nat → Nat → Int32} {own : String} {w : sW}
/-- no cell of the one is a cell of the other -/
def apt (w1 w2 : va_W) : Prop := ∀ (i j : Nat) (x y : Nat × va_E), w1[i]? = some x → w2[j]? = some y → x.1 ≠ y.1
theorem apt.symm {w1 w2 : va_W} (h : apt w1 w2) : apt w2 w1 := fun i j x y h1 h2 q => h j i y x h2 h1 q.symm
theorem free_of {w0 : va_W} {H0 : Heap} (hA : ∀ q, H0.size ≤ q → A q) (D1 : va_D A w0) (S : va_S A H0 H locs) : ∀ q, va_A w0 H.size q → A q := by
  intro q hq
  rcases hq with ⟨k, e, hk⟩ | hq
  · exact D1.2 k _ hk
  · exact hA q (Nat.le_trans S.1 hq)
/-- behind a call on w0 the rest stands as it was -/
theorem rest_of {w0 wr w1 : va_W} {H1 : Heap} (P2 : va_P D vwCl wr H) (ap : apt w0 wr) (hk : ∀ q : Nat, q < H.size → ¬ va_A w0 H.size q → H1[q]? = H[q]?) (D1 : va_D (va_A w0 H.size) w1) : va_P D vwCl wr H1 ∧ apt w1 wr := by
  have key : ∀ (j : Nat) (y : Nat × va_E), wr[j]? = some y → y.1 < H.size ∧ ¬ va_A w0 H.size y.1 := by
    intro j y hj
    have hl := (P2 j y hj).lt
    refine ⟨hl, fun q => ?_⟩
    rcases q with ⟨k, e, hk⟩ | q
    · exact ap k j _ y hk hj rfl
    · omega
  refine ⟨P2.kept (fun k q hq => hk q.1 (key k q hq).1 (key k q hq).2), fun i j x y hi hj q => ?_⟩
  have h1 := D1.2 i x hi
  rw [q] at h1
  exact (key j y hj).2 h1
theorem mG_callR {l : Launch} {y : MethodName} {cb : ByteArray} {nB : Nat} {ty : FieldType} {rm : Room} {As : List Value} {post : Int32 → (Nat → Int32) → (Nat → Nat → Int32) → Prop} {ci n idx : Nat} {q : vw_C} {wr : va_W}
    (C : kC p s m args meth c cc nL own D d A) (I : iG w D d A s.heap h a f r H locs) (P2 : va_P D vwCl wr H) (ap : apt (w h a d f r) wr) (hM : mG l w y cb nB ty rm D d h a f r As post) (hw : ∃ fs, (w h a d f r)[0]? = some (h, .inr (ci, fs))) (hci : vwCl[ci]? = some q)
    (hG : GoodIn lw_all (wsV own idx q.1 y (ws_ y cb nB (some ty)))) (hd : y.cls = q.1 ∧ y.cls ≠ "java/lang/invoke/MethodHandle" ∧ y.cls ≠ "java/lang/invoke/VarHandle" ∧ (parseMethodDescriptor y.desc).map (fun d => d.parameters.length) = some n)
    (hR : rm.frames + 1 ≤ R.frames ∧ 8 + (nB + 11) + rm.locals ≤ R.locals) (hrm : rm.cells = 0 ∧ rm.slots = 0) (hn : As.length = n) (hsz : ls.size = nL) (hro : (rest.map fun v => v.category).sum ≤ 8) (hdg : decode cc pc = .ok (.invokevirtual idx, 3)) (hcs : cells ≤ R.cells ∧ slots ≤ R.slots) {st : List Value} (hst : st = As.reverse ++ .ref h :: rest)
    (kk : ∀ (v : Int32) (f' : Nat → Int32) (r' : Nat → Nat → Int32) (H1 : Heap) (locs1 : List Loc), post v f' r' → iG w D d A s.heap h a f' r' H1 locs1 → va_P D vwCl wr H1 → apt (w h a d f' r') wr → W p l e R s m args below meth c H1 locs1 cells slots Q (F0 m (pc + 3) ls (.int v :: rest))) :
    W p l e R s m args below meth c H locs cells slots Q (F0 m pc ls st) := by
  subst hst
  have hFc := iG_free C I
  refine va_calli (va_runV (As := As) (rest := rest) ⟨C.1, C.2.1, C.2.2.1, C.2.2.2.1, C.2.2.2.2.1⟩ (hM H.size) (cwV n C.2.2.2.2.1 hG rfl hrm.1 hrm.2 hd hR) (pG_pre C I hw hci) rfl hn hsz rfl (lv_room hro) hdg hcs) I.2.2 (fun q _ h => hFc q h) hFc (fun v u t H1 locs ht hvm hp hB hz1 hk1 hS => ?_)
  obtain ⟨f', r'⟩ := u
  obtain ⟨z1, z2⟩ := rest_of P2 ap hk1 hB.2
  exact kk v f' r' H1 locs hp ⟨by rw [← ht]; exact hB.1, hB.2.weaken (fun k q _ h => hFc q.1 h), hS⟩ z1 z2
/-- both objects -/
def iL (D : va_G) (d : ClassId) (A : Nat → Prop) (H0 : Heap) (hX : Nat) (aX : Nat → Nat) (fX : Nat → Int32) (rX : Nat → Nat → Int32) (hM : Nat) (aM : Nat → Nat) (fM : Nat → Int32) (rM : Nat → Nat → Int32) (H : Heap) (locs : List Loc) : Prop :=
  iG wX D d A H0 hX aX fX rX H locs ∧ iG wM D d A H0 hM aM fM rM H locs ∧ apt (wX hX aX d fX rX) (wM hM aM d fM rM)
variable {hX hM : Nat} {aX aM : Nat → Nat} {fX fM : Nat → Int32} {rX rM : Nat → Nat → Int32}
theorem callLX {l : Launch} {y : MethodName} {cb : ByteArray} {nB : Nat} {ty : FieldType} {rm : Room} {As : List Value} {post : Int32 → (Nat → Int32) → (Nat → Nat → Int32) → Prop} {n idx : Nat}
    (C : kC p s m args meth c cc nL own D d A) (I : iL D d A s.heap hX aX fX rX hM aM fM rM H locs) (hMt : mG l wX y cb nB ty rm D d hX aX fX rX As post)
    (hG : GoodIn lw_all (wsV own idx RX1 y (ws_ y cb nB (some ty)))) (hd : y.cls = RX1 ∧ y.cls ≠ "java/lang/invoke/MethodHandle" ∧ y.cls ≠ "java/lang/invoke/VarHandle" ∧ (parseMethodDescriptor y.desc).map (fun d => d.parameters.length) = some n)
    (hR : rm.frames + 1 ≤ R.frames ∧ 8 + (nB + 11) + rm.locals ≤ R.locals) (hrm : rm.cells = 0 ∧ rm.slots = 0) (hn : As.length = n) (hsz : ls.size = nL) (hro : (rest.map fun v => v.category).sum ≤ 8) (hdg : decode cc pc = .ok (.invokevirtual idx, 3)) (hcs : cells ≤ R.cells ∧ slots ≤ R.slots) {st : List Value} (hst : st = As.reverse ++ .ref hX :: rest)
    (kk : ∀ (v : Int32) (f' : Nat → Int32) (r' : Nat → Nat → Int32) (H1 : Heap) (locs1 : List Loc), post v f' r' → iL D d A s.heap hX aX f' r' hM aM fM rM H1 locs1 → W p l e R s m args below meth c H1 locs1 cells slots Q (F0 m (pc + 3) ls (.int v :: rest))) :
    W p l e R s m args below meth c H locs cells slots Q (F0 m pc ls st) :=
  mG_callR (q := (RX1, TX1, 18)) (ci := 0) C I.1 I.2.1.1 I.2.2 hMt ⟨_, rfl⟩ rfl hG hd hR hrm hn hsz hro hdg hcs hst (fun v f' r' H1 locs1 hp J z1 z2 => kk v f' r' H1 locs1 hp ⟨J, ⟨z1, I.2.1.2.1, J.2.2⟩, z2⟩)
theorem callLM {l : Launch} {y : MethodName} {cb : ByteArray} {nB : Nat} {ty : FieldType} {rm : Room} {As : List Value} {post : Int32 → (Nat → Int32) → (Nat → Nat → Int32) → Prop} {n idx : Nat}
    (C : kC p s m args meth c cc nL own D d A) (I : iL D d A s.heap hX aX fX rX hM aM fM rM H locs) (hMt : mG l wM y cb nB ty rm D d hM aM fM rM As post)
    (hG : GoodIn lw_all (wsV own idx RX2 y (ws_ y cb nB (some ty)))) (hd : y.cls = RX2 ∧ y.cls ≠ "java/lang/invoke/MethodHandle" ∧ y.cls ≠ "java/lang/invoke/VarHandle" ∧ (parseMethodDescriptor y.desc).map (fun d => d.parameters.length) = some n)
    (hR : rm.frames + 1 ≤ R.frames ∧ 8 + (nB + 11) + rm.locals ≤ R.locals) (hrm : rm.cells = 0 ∧ rm.slots = 0) (hn : As.length = n) (hsz : ls.size = nL) (hro : (rest.map fun v => v.category).sum ≤ 8) (hdg : decode cc pc = .ok (.invokevirtual idx, 3)) (hcs : cells ≤ R.cells ∧ slots ≤ R.slots) {st : List Value} (hst : st = As.reverse ++ .ref hM :: rest)
    (kk : ∀ (v : Int32) (f' : Nat → Int32) (r' : Nat → Nat → Int32) (H1 : Heap) (locs1 : List Loc), post v f' r' → iL D d A s.heap hX aX fX rX hM aM f' r' H1 locs1 → W p l e R s m args below meth c H1 locs1 cells slots Q (F0 m (pc + 3) ls (.int v :: rest))) :
    W p l e R s m args below meth c H locs cells slots Q (F0 m pc ls st) :=
  mG_callR (q := (RX2, TX2, 11)) (ci := 1) C I.2.1 I.1.1 I.2.2.symm hMt ⟨_, rfl⟩ rfl hG hd hR hrm hn hsz hro hdg hcs hst (fun v f' r' H1 locs1 hp J z1 z2 => kk v f' r' H1 locs1 hp ⟨⟨z1, I.1.2.1, J.2.2⟩, J, z2.symm⟩)
/-- a constructor's contract -/
abbrev mC (l : Launch) (w : sW) (w0 : va_W) (y : MethodName) (cb : ByteArray) (nB : Nat) (rm : Room) (D : va_G) (d : ClassId) (h : Nat) (As : List Value) (post : (Nat → Int32) → (Nat → Nat → Int32) → Prop) (mc ms sz : Nat) : Prop :=
  Met l y (ws_ y cb nB none) rm (va_Pc (.ref h :: As) (fun U => U.heap.size = sz ∧ va_P D vwCl w0 U.heap ∧ va_K D vwCl [(d, .int)] U ∧ va_D (fun _ => True) w0)) (va_Qv (fun (u : (Nat → Nat) × sT) => post u.2.1 u.2.2) (fun u t => va_P D vwCl (w h u.1 d u.2.1 u.2.2) t.heap ∧ va_D (va_A w0 sz) (w h u.1 d u.2.1 u.2.2)) (va_A w0 sz)) mc ms (va_A w0 sz)
theorem ctor_call {l : Launch} {y : MethodName} {cb : ByteArray} {nB : Nat} {rm : Room} {As : List Value} {post : (Nat → Int32) → (Nat → Nat → Int32) → Prop} {n idx mc ms : Nat} {w0 wr : va_W}
    (C : kC p s m args meth c cc nL own D d A) (P1 : va_P D vwCl w0 H) (D1 : va_D A w0) (P2 : va_P D vwCl wr H) (ap : apt w0 wr) (S : va_S A s.heap H locs) (hMt : mC l w w0 y cb nB rm D d h As post mc ms H.size)
    (cw : CallB R s args own idx y cb nB none (ws_ y cb nB none) rm mc ms n ∧ y.name = "<init>" ∧ (Cond.instanceMethod y).before args s = true) (hn : As.length = n) (hsz : ls.size = nL) (hro : (rest.map fun v => v.category).sum ≤ 8) (hdg : decode cc pc = .ok (.invokespecial idx, 3)) (hcs : cells + mc ≤ R.cells ∧ slots + ms ≤ R.slots) {st : List Value} (hst : st = As.reverse ++ .ref h :: rest)
    (kk : ∀ (a : Nat → Nat) (f' : Nat → Int32) (r' : Nat → Nat → Int32) (H1 : Heap) (locs1 : List Loc), post f' r' → iG w D d A s.heap h a f' r' H1 locs1 → va_P D vwCl wr H1 → apt (w h a d f' r') wr → W p l e R s m args below meth c H1 locs1 (cells + mc) (slots + ms) Q (F0 m (pc + 3) ls rest)) :
    W p l e R s m args below meth c H locs cells slots Q (F0 m pc ls st) := by
  subst hst
  have hFc := free_of C.2.2.2.2.2.2.2 D1 S
  refine va_callv (va_runI (As := As) (rest := rest) ⟨C.1, C.2.1, C.2.2.1, C.2.2.2.1, C.2.2.2.2.1⟩ hMt cw ⟨fun a U g mk q => ?_, fun U hU hW => ?_⟩ rfl hn hsz rfl (lv_room hro) hdg hcs) S (fun q _ h => hFc q h) hFc (fun u t H1 locs ht hvm hp hB hz1 hk1 hS => ?_)
  · obtain ⟨q0, q1, qP, qK, qD⟩ := q
    exact ⟨q0, q1, qP, va_K.moved (u := U) (U := U.calling g mk a) (Vm.Alike.refl U.vm) qK, qD⟩
  · exact ⟨rfl, by rw [hU], by rw [hU]; exact P1, va_K.moved hW.alike C.2.2.2.2.2.1, D1.weaken (fun _ _ _ _ => trivial)⟩
  · obtain ⟨a', f', r'⟩ := u
    obtain ⟨z1, z2⟩ := rest_of P2 ap hk1 hB.2
    exact kk a' f' r' H1 locs hp ⟨by rw [← ht]; exact hB.1, hB.2.weaken (fun k q _ h => hFc q.1 h), hS⟩ z1 z2
/-- cell(s, k): the k-th int, or 0 -/
theorem met_cell (l : Launch) (b L k : Nat) (xs : Nat → Int32) (sz : Nat) (hL : L < 2 ^ 31) (hk : k < 2 ^ 31) : Met l yX0_cell (ws_ yX0_cell cX0_cell 2 (some .int)) (rmK 0) (va_Pc [.ref b, .int (nI k)] (fun U => U.heap.size = sz ∧ b < sz ∧ va_X b L xs U U.heap)) (va_Qi (fun v (_ : Unit) => v = if k < L then xs k else 0) (fun _ _ => True) (va_A [] sz)) 0 0 (va_A [] sz) := by
  refine Met.ofW (cc := cX0_cell) (maxL := 2) (ret := some .int) (by decide) rfl ?_
  intro p e s m args below meth c s₁ B hml hv
  obtain ⟨rfl, hsz, hbs, hX⟩ := hv
  have hx := B.exec
  have hb := B.bytes
  subst hsz
  generalize hAe : va_A [] s.heap.size = A
  have hbA : ¬ A b := by
    rw [← hAe]
    rintro (⟨k, e, h⟩ | h)
    · simp at h
    · omega
  have hS : va_S A s.heap s.heap [] := va_S.rf
  have hl := lv_entry ([.ref b, .int (nI k)]) (n := 2) (Nat.le_of_ble_eq_true rfl)
  rw [lg_entry_eq]
  generalize (lg_sl ([.ref b, .int (nI k)]) ++ List.replicate (2 - (lg_sl ([.ref b, .int (nI k)])).length) Slot.unset).toArray = ls at hl ⊢
  have hl : lv_has ls 2 [(0, .ref b), (1, .int (nI k))] := hl
  refine lv_iload_n hx hb dX0_cell_0 rfl (lv_at hl 1 rfl) ?_
  refine lv_aload_n hx hb dX0_cell_1 rfl (lv_at hl 0 rfl) ?_
  refine va_slen hx hb hX hbs hbA hS dX0_cell_2 ?_
  refine n_icge (y := L) (tgt := 12) hx hb hk hL dX0_cell_3 (by decide) (fun c3 => ?_) (fun c3 => ?_)
  · refine lv_iconst (v := 0) hx hb dX0_cell_12 (by decide) ?_
    exact W.iret (v := 0) hx hb B.returns (fun t ht hW => ⟨⟨0, (), rfl, by rw [if_neg (Nat.not_lt.mpr c3)], trivial⟩, hS.F ht⟩) hS.2.2 dX0_cell_13 B.notSynchronized
  · refine lv_aload_n hx hb dX0_cell_6 rfl (lv_at hl 0 rfl) ?_
    refine lv_iload_n hx hb dX0_cell_7 rfl (lv_at hl 1 rfl) ?_
    refine va_sld hx hb hX hbs hbA hS (vp_in_nI c3 hL) dX0_cell_8 ?_
    rw [nI_clamp hk]
    refine lv_goto (tgt := 13) hx hb dX0_cell_9 (by decide) ?_
    exact W.iret (v := xs k) hx hb B.returns (fun t ht hW => ⟨⟨xs k, (), rfl, by rw [if_pos c3], trivial⟩, hS.F ht⟩) hS.2.2 dX0_cell_13 B.notSynchronized
theorem cwL_cell : GoodIn lw_all (va_wsS RX0 9 yX0_cell (ws_ yX0_cell cX0_cell 2 (some .int))) := lw_S q207 q208 q27 q209
theorem cell_call {l : Launch} {b L : Nat} {xs : Nat → Int32} {ws : va_W} (C : kC p s m args meth c cc nL RX0 D d A) (hX : va_X b L xs s s.heap) (hbs : b < s.heap.size) (hbA : ¬ A b) (hL : L < 2 ^ 31) (k : Nat) (hk : k < 2 ^ 31) (P1 : va_P D vwCl ws H) (S : va_S A s.heap H locs)
    (hR : 1 ≤ R.frames ∧ 21 ≤ R.locals) (hsz : ls.size = nL) (hro : (rest.map fun v => v.category).sum ≤ 8) (hdg : decode cc pc = .ok (.invokestatic 9, 3)) (hcs : cells ≤ R.cells ∧ slots ≤ R.slots)
    (kk : ∀ (H1 : Heap) (locs1 : List Loc), va_P D vwCl ws H1 → va_S A s.heap H1 locs1 → W p l e R s m args below meth c H1 locs1 cells slots Q (F0 m (pc + 3) ls (.int (if k < L then xs k else 0) :: rest))) :
    W p l e R s m args below meth c H locs cells slots Q (F0 m pc ls (.int (nI k) :: .ref b :: rest)) := by
  have hXH : va_X b L xs s H := hX.kept (S.2.1 b hbs hbA)
  have hFc : ∀ q, va_A [] H.size q → A q := by
    rintro q (⟨k, e, h⟩ | h)
    · simp at h
    · exact C.2.2.2.2.2.2.2 q (Nat.le_trans S.1 h)
  refine va_calli (va_runS (As := [.ref b, .int (nI k)]) (rest := rest) ⟨C.1, C.2.1, C.2.2.1, C.2.2.2.1, C.2.2.2.2.1⟩ (met_cell l b L k xs H.size hL hk) (va_cwS 2 C.2.2.2.2.1 cwL_cell rfl rfl rfl (by decide +kernel) hR) ⟨fun a U g mk q => ?_, fun U hU hW => ?_⟩ rfl rfl hsz rfl (lv_room hro) hdg hcs) S (fun q _ h => hFc q h) hFc (fun v u t H1 locs ht hvm hp hB hz1 hk1 hS => ?_)
  · obtain ⟨q0, q1, q2, q3⟩ := q
    exact ⟨q0, q1, q2, va_X.moved (u := U) (U := U.calling g mk a) (Vm.Alike.refl U.vm) q3⟩
  · exact ⟨rfl, by rw [hU], Nat.lt_of_lt_of_le hbs S.1, by rw [hU]; exact va_X.moved hW.alike hXH⟩
  · subst hp
    refine kk H1 locs (P1.kept (fun k q hq => hk1 q.1 (P1 k q hq).lt (fun z => ?_))) hS
    rcases z with ⟨k2, e2, h2⟩ | z
    · simp at h2
    · have := (P1 k q hq).lt
      omega
/-- the script's j-th int -/
theorem sldL {b L : Nat} {xs : Nat → Int32} (C : kC p s m args meth c cc nL own D d A) (hX : va_X b L xs s s.heap) (hbs : b < s.heap.size) (hbA : ¬ A b) (hL : L < 2 ^ 31) (S : va_S A s.heap H locs) {j : Nat} (hj : j < L) (hdg : decode cc pc = .ok (.iaload, 1))
    (kk : W p l e R s m args below meth c H locs cells slots Q (F0 m (pc + 1) ls (.int (xs j) :: rest))) : W p l e R s m args below meth c H locs cells slots Q (F0 m pc ls (.int (nI j) :: .ref b :: rest)) := by
  refine va_sld C.1 C.2.1 hX hbs hbA S (vp_in_nI hj hL) hdg ?_
  rw [nI_clamp (by omega)]
  exact kk
end LAWROWS
end
section
set_option maxRecDepth 100000
section LAWCASES
variable {p : Program} {l : Launch} {ee : Env} {s : State} {m : MethodId} {args : Array Value} {below : List Frame} {meth : Method} {cd : Code} {DD : va_G} {dd : ClassId} {AA : Nat → Prop} {Q : State → Prop} {H : Heap} {locs : List Loc} {ls : Array Slot} {hX hM : Nat} {aX aM : Nat → Nat} {fX fM : Nat → Int32} {rX rM : Nat → Nat → Int32} {b S : Nat} {xs : Nat → Int32} {L D N c : Nat} {G B : Nat → Nat} {i : Nat}
/-- what stands at the head of a call of the law -/
abbrev lawAt (p : Program) (s : State) (m : MethodId) (args : Array Value) (meth : Method) (cd : Code) (DD : va_G) (dd : ClassId) (AA : Nat → Prop) (b S : Nat) (xs : Nat → Int32) : Prop := kC p s m args meth cd cL_law 4 RX0 DD dd AA ∧ va_X b S xs s s.heap ∧ b < s.heap.size ∧ ¬ AA b ∧ S ≤ 258
set_option maxHeartbeats 4000000 in
theorem law_codes (C0 : lawAt p s m args meth cd DD dd AA b S xs) (hi : i + 4 ≤ S) (I : iL DD dd AA s.heap hX aX fX rX hM aM fM rM H locs) (sX : stX L D N c G B fX rX) (sM : stM L D N c G B fM rM) (hl : lv_has ls 4 [(0, .ref b), (1, .ref hX), (2, .ref hM), (3, .int (nI i))])
    (kk : ∀ (c : Nat) (G B : Nat → Nat) (fX : Nat → Int32) (rX : Nat → Nat → Int32) (fM : Nat → Int32) (rM : Nat → Nat → Int32) (H : Heap) (locs : List Loc), stX L D N c G B fX rX → stM L D N c G B fM rM → iL DD dd AA s.heap hX aX fX rX hM aM fM rM H locs → W p l ee room_1 s m args below meth cd H locs 18 8596 Q (F0 m 457 ls [])) : W p l ee room_1 s m args below meth cd H locs 18 8596 Q (F0 m 136 ls []) := by
  obtain ⟨C, hXs, hbs, hbA, hS⟩ := C0
  have hx := C.1
  have hb := C.2.1
  have hN81 := sX.1.1.2.2.2.2.2.1
  refine lv_aload_n hx hb dL_law_136 rfl (lv_at hl 1 rfl) ?_
  refine callLX C I (metX_codes l DD dd hX aX fX rX sX.1) cwL_Xcodes cdX_codes ⟨Nat.le_of_ble_eq_true rfl, Nat.le_of_ble_eq_true rfl⟩ ⟨rfl, rfl⟩ rfl hl.1 (Nat.le_of_ble_eq_true rfl) dL_law_137 ⟨Nat.le_of_ble_eq_true rfl, Nat.le_of_ble_eq_true rfl⟩ rfl (fun v1 f1 r1 H locs hp1 I => ?_)
  refine lv_aload_n hx hb dL_law_140 rfl (lv_at hl 2 rfl) ?_
  refine callLM C I (metM_codes l DD dd hM aM fM rM sM.1) cwL_Mcodes cdM_codes ⟨Nat.le_of_ble_eq_true rfl, Nat.le_of_ble_eq_true rfl⟩ ⟨rfl, rfl⟩ rfl hl.1 (Nat.le_of_ble_eq_true rfl) dL_law_141 ⟨Nat.le_of_ble_eq_true rfl, Nat.le_of_ble_eq_true rfl⟩ rfl (fun v2 f2 r2 H locs hp2 I => ?_)
  have hv : v1 = v2 := hp1.1.trans hp2.1.symm
  have hs1 : stX L D N c G B f1 r1 := by rw [hp1.2.1, hp1.2.2]; exact sX
  have hs2 : stM L D N c G B f2 r2 := by rw [hp2.2.1, hp2.2.2]; exact sM
  refine lv_icmp_eq (tgt := 457) hx hb dL_law_144 (by decide) (fun _ => ?_) (fun q => absurd hv q)
  exact kk c G B _ _ _ _ _ _ hs1 hs2 I
set_option maxHeartbeats 4000000 in
theorem law_answer (C0 : lawAt p s m args meth cd DD dd AA b S xs) (hi : i + 4 ≤ S) (I : iL DD dd AA s.heap hX aX fX rX hM aM fM rM H locs) (sX : stX L D N c G B fX rX) (sM : stM L D N c G B fM rM) (hl : lv_has ls 4 [(0, .ref b), (1, .ref hX), (2, .ref hM), (3, .int (nI i))])
    (kk : ∀ (c : Nat) (G B : Nat → Nat) (fX : Nat → Int32) (rX : Nat → Nat → Int32) (fM : Nat → Int32) (rM : Nat → Nat → Int32) (H : Heap) (locs : List Loc), stX L D N c G B fX rX → stM L D N c G B fM rM → iL DD dd AA s.heap hX aX fX rX hM aM fM rM H locs → W p l ee room_1 s m args below meth cd H locs 18 8596 Q (F0 m 457 ls [])) : W p l ee room_1 s m args below meth cd H locs 18 8596 Q (F0 m 149 ls []) := by
  obtain ⟨C, hXs, hbs, hbA, hS⟩ := C0
  have hx := C.1
  have hb := C.2.1
  have hN81 := sX.1.1.2.2.2.2.2.1
  refine lv_aload_n hx hb dL_law_149 rfl (lv_at hl 1 rfl) ?_
  refine lv_aload_n hx hb dL_law_150 rfl (lv_at hl 0 rfl) ?_
  refine lv_iload_n hx hb dL_law_151 rfl (lv_at hl 3 rfl) ?_
  refine lv_iconst (v := nI 1) hx hb dL_law_152 (by decide) ?_
  refine n_add hx hb dL_law_153 ?_
  refine sldL C hXs hbs hbA (by omega) I.1.2.2 (by omega) dL_law_154 ?_
  refine lv_aload_n hx hb dL_law_155 rfl (lv_at hl 0 rfl) ?_
  refine lv_iload_n hx hb dL_law_156 rfl (lv_at hl 3 rfl) ?_
  refine lv_iconst (v := nI 2) hx hb dL_law_157 (by decide) ?_
  refine n_add hx hb dL_law_158 ?_
  refine sldL C hXs hbs hbA (by omega) I.1.2.2 (by omega) dL_law_159 ?_
  refine callLX C I (metX_answer l DD dd hX aX fX rX (xs (i + 1)) (xs (i + 2)) sX.1) cwL_Xanswer cdX_answer ⟨Nat.le_of_ble_eq_true rfl, Nat.le_of_ble_eq_true rfl⟩ ⟨rfl, rfl⟩ rfl hl.1 (Nat.le_of_ble_eq_true rfl) dL_law_160 ⟨Nat.le_of_ble_eq_true rfl, Nat.le_of_ble_eq_true rfl⟩ rfl (fun v1 f1 r1 H locs hp1 I => ?_)
  refine lv_aload_n hx hb dL_law_163 rfl (lv_at hl 2 rfl) ?_
  refine lv_aload_n hx hb dL_law_164 rfl (lv_at hl 0 rfl) ?_
  refine lv_iload_n hx hb dL_law_165 rfl (lv_at hl 3 rfl) ?_
  refine lv_iconst (v := nI 1) hx hb dL_law_166 (by decide) ?_
  refine n_add hx hb dL_law_167 ?_
  refine sldL C hXs hbs hbA (by omega) I.1.2.2 (by omega) dL_law_168 ?_
  refine lv_aload_n hx hb dL_law_169 rfl (lv_at hl 0 rfl) ?_
  refine lv_iload_n hx hb dL_law_170 rfl (lv_at hl 3 rfl) ?_
  refine lv_iconst (v := nI 2) hx hb dL_law_171 (by decide) ?_
  refine n_add hx hb dL_law_172 ?_
  refine sldL C hXs hbs hbA (by omega) I.1.2.2 (by omega) dL_law_173 ?_
  refine callLM C I (metM_answer l DD dd hM aM fM rM (xs (i + 1)) (xs (i + 2)) sM) cwL_Manswer cdM_answer ⟨Nat.le_of_ble_eq_true rfl, Nat.le_of_ble_eq_true rfl⟩ ⟨rfl, rfl⟩ rfl hl.1 (Nat.le_of_ble_eq_true rfl) dL_law_174 ⟨Nat.le_of_ble_eq_true rfl, Nat.le_of_ble_eq_true rfl⟩ rfl (fun v2 f2 r2 H locs hp2 I => ?_)
  have hv : v1 = v2 := by
    rcases hp1.1 with ⟨e1, q1⟩ | ⟨i1, j1, a1, a2, a3, a4, a5⟩ <;> rcases hp2.1 with ⟨e2, q2⟩ | ⟨i2, j2, b1, b2, b3, b4, b5⟩
    · rw [e1, e2]
    · exact absurd ⟨⟨i2, b1, b3⟩, ⟨j2, b2, b4⟩⟩ q1
    · exact absurd ⟨⟨i1, a1, a3⟩, ⟨j1, a2, a4⟩⟩ q2
    · have e3 := (nI_eq (by omega) (by omega)).mp (a3.symm.trans b3)
      have e4 := (nI_eq (by omega) (by omega)).mp (a4.symm.trans b4)
      subst e3; subst e4
      rw [a5, b5]
  have hs1 : stX L D N c G B f1 r1 := by rw [hp1.2.1, hp1.2.2]; exact sX
  have hs2 : stM L D N c G B f2 r2 := by rw [hp2.2.1, hp2.2.2]; exact sM
  refine lv_icmp_eq (tgt := 457) hx hb dL_law_177 (by decide) (fun _ => ?_) (fun q => absurd hv q)
  exact kk c G B _ _ _ _ _ _ hs1 hs2 I
set_option maxHeartbeats 4000000 in
theorem law_tell (C0 : lawAt p s m args meth cd DD dd AA b S xs) (hi : i + 4 ≤ S) (I : iL DD dd AA s.heap hX aX fX rX hM aM fM rM H locs) (sX : stX L D N c G B fX rX) (sM : stM L D N c G B fM rM) (hl : lv_has ls 4 [(0, .ref b), (1, .ref hX), (2, .ref hM), (3, .int (nI i))])
    (kk : ∀ (c : Nat) (G B : Nat → Nat) (fX : Nat → Int32) (rX : Nat → Nat → Int32) (fM : Nat → Int32) (rM : Nat → Nat → Int32) (H : Heap) (locs : List Loc), stX L D N c G B fX rX → stM L D N c G B fM rM → iL DD dd AA s.heap hX aX fX rX hM aM fM rM H locs → W p l ee room_1 s m args below meth cd H locs 18 8596 Q (F0 m 457 ls [])) : W p l ee room_1 s m args below meth cd H locs 18 8596 Q (F0 m 182 ls []) := by
  obtain ⟨C, hXs, hbs, hbA, hS⟩ := C0
  have hx := C.1
  have hb := C.2.1
  have hN81 := sX.1.1.2.2.2.2.2.1
  refine lv_aload_n hx hb dL_law_182 rfl (lv_at hl 1 rfl) ?_
  refine lv_aload_n hx hb dL_law_183 rfl (lv_at hl 0 rfl) ?_
  refine lv_iload_n hx hb dL_law_184 rfl (lv_at hl 3 rfl) ?_
  refine lv_iconst (v := nI 1) hx hb dL_law_185 (by decide) ?_
  refine n_add hx hb dL_law_186 ?_
  refine sldL C hXs hbs hbA (by omega) I.1.2.2 (by omega) dL_law_187 ?_
  refine lv_aload_n hx hb dL_law_188 rfl (lv_at hl 0 rfl) ?_
  refine lv_iload_n hx hb dL_law_189 rfl (lv_at hl 3 rfl) ?_
  refine lv_iconst (v := nI 2) hx hb dL_law_190 (by decide) ?_
  refine n_add hx hb dL_law_191 ?_
  refine sldL C hXs hbs hbA (by omega) I.1.2.2 (by omega) dL_law_192 ?_
  refine lv_aload_n hx hb dL_law_193 rfl (lv_at hl 0 rfl) ?_
  refine lv_iload_n hx hb dL_law_194 rfl (lv_at hl 3 rfl) ?_
  refine lv_iconst (v := nI 3) hx hb dL_law_195 (by decide) ?_
  refine n_add hx hb dL_law_196 ?_
  refine sldL C hXs hbs hbA (by omega) I.1.2.2 (by omega) dL_law_197 ?_
  refine callLX C I (metX_tell l DD dd hX aX fX rX (xs (i + 1)) (xs (i + 2)) (xs (i + 3)) sX) cwL_Xtell cdX_tell ⟨Nat.le_of_ble_eq_true rfl, Nat.le_of_ble_eq_true rfl⟩ ⟨rfl, rfl⟩ rfl hl.1 (Nat.le_of_ble_eq_true rfl) dL_law_198 ⟨Nat.le_of_ble_eq_true rfl, Nat.le_of_ble_eq_true rfl⟩ rfl (fun v1 f1 r1 H locs hp1 I => ?_)
  refine lv_aload_n hx hb dL_law_201 rfl (lv_at hl 2 rfl) ?_
  refine lv_aload_n hx hb dL_law_202 rfl (lv_at hl 0 rfl) ?_
  refine lv_iload_n hx hb dL_law_203 rfl (lv_at hl 3 rfl) ?_
  refine lv_iconst (v := nI 1) hx hb dL_law_204 (by decide) ?_
  refine n_add hx hb dL_law_205 ?_
  refine sldL C hXs hbs hbA (by omega) I.1.2.2 (by omega) dL_law_206 ?_
  refine lv_aload_n hx hb dL_law_207 rfl (lv_at hl 0 rfl) ?_
  refine lv_iload_n hx hb dL_law_208 rfl (lv_at hl 3 rfl) ?_
  refine lv_iconst (v := nI 2) hx hb dL_law_209 (by decide) ?_
  refine n_add hx hb dL_law_210 ?_
  refine sldL C hXs hbs hbA (by omega) I.1.2.2 (by omega) dL_law_211 ?_
  refine lv_aload_n hx hb dL_law_212 rfl (lv_at hl 0 rfl) ?_
  refine lv_iload_n hx hb dL_law_213 rfl (lv_at hl 3 rfl) ?_
  refine lv_iconst (v := nI 3) hx hb dL_law_214 (by decide) ?_
  refine n_add hx hb dL_law_215 ?_
  refine sldL C hXs hbs hbA (by omega) I.1.2.2 (by omega) dL_law_216 ?_
  refine callLM C I (metM_tell l DD dd hM aM fM rM (xs (i + 1)) (xs (i + 2)) (xs (i + 3)) sM) cwL_Mtell cdM_tell ⟨Nat.le_of_ble_eq_true rfl, Nat.le_of_ble_eq_true rfl⟩ ⟨rfl, rfl⟩ rfl hl.1 (Nat.le_of_ble_eq_true rfl) dL_law_217 ⟨Nat.le_of_ble_eq_true rfl, Nat.le_of_ble_eq_true rfl⟩ rfl (fun v2 f2 r2 H locs hp2 I => ?_)
  obtain ⟨hv, c9, G9, B9, hs1, hs2⟩ : v1 = v2 ∧ ∃ c9 G9 B9, stX L D N c9 G9 B9 f1 r1 ∧ stM L D N c9 G9 B9 f2 r2 := by
    rcases hp1 with ⟨q1, e1, e2, e3⟩ | ⟨q1, z1, e1, e2, e3⟩ | ⟨i1, b1, w1, a1, a2, a3, a4, a5, a6, a7, a8, a9⟩ <;> rcases hp2 with ⟨q2, d1, d2, d3⟩ | ⟨q2, z2, d1, d2, d3⟩ | ⟨i2, b2, w2, o1, o2, o3, o4, o5, o6, o7, o8, o9⟩
    · exact ⟨by rw [e1, d1], c, G, B, by rw [e2, e3]; exact sX, by rw [d2, d3]; exact sM⟩
    · exact absurd q2 q1
    · exact absurd ⟨⟨i2, o1, o4⟩, ⟨b2, by omega, o5⟩, ⟨w2, by omega, o6⟩⟩ q1
    · exact absurd q1 q2
    · exact ⟨by rw [e1, d1], c, G, B, by rw [e2, e3]; exact sX, by rw [d2, d3]; exact sM⟩
    · omega
    · exact absurd ⟨⟨i1, a1, a4⟩, ⟨b1, by omega, a5⟩, ⟨w1, by omega, a6⟩⟩ q2
    · omega
    · have h1 := (nI_eq (by omega) (by omega)).mp (a4.symm.trans o4)
      have h2 := (nI_eq (by omega) (by omega)).mp (a5.symm.trans o5)
      have h3 := (nI_eq (by omega) (by omega)).mp (a6.symm.trans o6)
      subst h1; subst h2; subst h3
      exact ⟨by rw [a8, o8], _, _, _, a9, o9⟩
  refine lv_icmp_eq (tgt := 457) hx hb dL_law_220 (by decide) (fun _ => ?_) (fun q => absurd hv q)
  exact kk c9 G9 B9 _ _ _ _ _ _ hs1 hs2 I
set_option maxHeartbeats 4000000 in
theorem law_forget (C0 : lawAt p s m args meth cd DD dd AA b S xs) (hi : i + 4 ≤ S) (I : iL DD dd AA s.heap hX aX fX rX hM aM fM rM H locs) (sX : stX L D N c G B fX rX) (sM : stM L D N c G B fM rM) (hl : lv_has ls 4 [(0, .ref b), (1, .ref hX), (2, .ref hM), (3, .int (nI i))])
    (kk : ∀ (c : Nat) (G B : Nat → Nat) (fX : Nat → Int32) (rX : Nat → Nat → Int32) (fM : Nat → Int32) (rM : Nat → Nat → Int32) (H : Heap) (locs : List Loc), stX L D N c G B fX rX → stM L D N c G B fM rM → iL DD dd AA s.heap hX aX fX rX hM aM fM rM H locs → W p l ee room_1 s m args below meth cd H locs 18 8596 Q (F0 m 457 ls [])) : W p l ee room_1 s m args below meth cd H locs 18 8596 Q (F0 m 225 ls []) := by
  obtain ⟨C, hXs, hbs, hbA, hS⟩ := C0
  have hx := C.1
  have hb := C.2.1
  have hN81 := sX.1.1.2.2.2.2.2.1
  refine lv_aload_n hx hb dL_law_225 rfl (lv_at hl 1 rfl) ?_
  refine callLX C I (metX_forget l DD dd hX aX fX rX sX) cwL_Xforget cdX_forget ⟨Nat.le_of_ble_eq_true rfl, Nat.le_of_ble_eq_true rfl⟩ ⟨rfl, rfl⟩ rfl hl.1 (Nat.le_of_ble_eq_true rfl) dL_law_226 ⟨Nat.le_of_ble_eq_true rfl, Nat.le_of_ble_eq_true rfl⟩ rfl (fun v1 f1 r1 H locs hp1 I => ?_)
  refine lv_aload_n hx hb dL_law_229 rfl (lv_at hl 2 rfl) ?_
  refine callLM C I (metM_forget l DD dd hM aM fM rM sM) cwL_Mforget cdM_forget ⟨Nat.le_of_ble_eq_true rfl, Nat.le_of_ble_eq_true rfl⟩ ⟨rfl, rfl⟩ rfl hl.1 (Nat.le_of_ble_eq_true rfl) dL_law_230 ⟨Nat.le_of_ble_eq_true rfl, Nat.le_of_ble_eq_true rfl⟩ rfl (fun v2 f2 r2 H locs hp2 I => ?_)
  obtain ⟨hv, c9, G9, B9, hs1, hs2⟩ : v1 = v2 ∧ ∃ c9 G9 B9, stX L D N c9 G9 B9 f1 r1 ∧ stM L D N c9 G9 B9 f2 r2 := by
    rcases hp1 with ⟨q1, e1, e2, e3⟩ | ⟨q1, e1, e2⟩ <;> rcases hp2 with ⟨q2, d1, d2, d3⟩ | ⟨q2, d1, d2⟩
    · exact ⟨by rw [e1, d1], c, G, B, by rw [e2, e3]; exact sX, by rw [d2, d3]; exact sM⟩
    · omega
    · omega
    · exact ⟨by rw [e1, d1], _, _, _, e2, d2⟩
  refine lv_icmp_eq (tgt := 457) hx hb dL_law_233 (by decide) (fun _ => ?_) (fun q => absurd hv q)
  exact kk c9 G9 B9 _ _ _ _ _ _ hs1 hs2 I
set_option maxHeartbeats 4000000 in
theorem law_told (C0 : lawAt p s m args meth cd DD dd AA b S xs) (hi : i + 4 ≤ S) (I : iL DD dd AA s.heap hX aX fX rX hM aM fM rM H locs) (sX : stX L D N c G B fX rX) (sM : stM L D N c G B fM rM) (hl : lv_has ls 4 [(0, .ref b), (1, .ref hX), (2, .ref hM), (3, .int (nI i))])
    (kk : ∀ (c : Nat) (G B : Nat → Nat) (fX : Nat → Int32) (rX : Nat → Nat → Int32) (fM : Nat → Int32) (rM : Nat → Nat → Int32) (H : Heap) (locs : List Loc), stX L D N c G B fX rX → stM L D N c G B fM rM → iL DD dd AA s.heap hX aX fX rX hM aM fM rM H locs → W p l ee room_1 s m args below meth cd H locs 18 8596 Q (F0 m 457 ls [])) : W p l ee room_1 s m args below meth cd H locs 18 8596 Q (F0 m 238 ls []) := by
  obtain ⟨C, hXs, hbs, hbA, hS⟩ := C0
  have hx := C.1
  have hb := C.2.1
  have hN81 := sX.1.1.2.2.2.2.2.1
  refine lv_aload_n hx hb dL_law_238 rfl (lv_at hl 1 rfl) ?_
  refine callLX C I (metX_told l DD dd hX aX fX rX sX) cwL_Xtold cdX_told ⟨Nat.le_of_ble_eq_true rfl, Nat.le_of_ble_eq_true rfl⟩ ⟨rfl, rfl⟩ rfl hl.1 (Nat.le_of_ble_eq_true rfl) dL_law_239 ⟨Nat.le_of_ble_eq_true rfl, Nat.le_of_ble_eq_true rfl⟩ rfl (fun v1 f1 r1 H locs hp1 I => ?_)
  refine lv_aload_n hx hb dL_law_242 rfl (lv_at hl 2 rfl) ?_
  refine callLM C I (metM_told l DD dd hM aM fM rM sM) cwL_Mtold cdM_told ⟨Nat.le_of_ble_eq_true rfl, Nat.le_of_ble_eq_true rfl⟩ ⟨rfl, rfl⟩ rfl hl.1 (Nat.le_of_ble_eq_true rfl) dL_law_243 ⟨Nat.le_of_ble_eq_true rfl, Nat.le_of_ble_eq_true rfl⟩ rfl (fun v2 f2 r2 H locs hp2 I => ?_)
  have hv : v1 = v2 := hp1.1.trans hp2.1.symm
  have hs1 : stX L D N c G B f1 r1 := by rw [hp1.2.1, hp1.2.2]; exact sX
  have hs2 : stM L D N c G B f2 r2 := by rw [hp2.2.1, hp2.2.2]; exact sM
  refine lv_icmp_eq (tgt := 457) hx hb dL_law_246 (by decide) (fun _ => ?_) (fun q => absurd hv q)
  exact kk c G B _ _ _ _ _ _ hs1 hs2 I
set_option maxHeartbeats 4000000 in
theorem law_possible (C0 : lawAt p s m args meth cd DD dd AA b S xs) (hi : i + 4 ≤ S) (I : iL DD dd AA s.heap hX aX fX rX hM aM fM rM H locs) (sX : stX L D N c G B fX rX) (sM : stM L D N c G B fM rM) (hl : lv_has ls 4 [(0, .ref b), (1, .ref hX), (2, .ref hM), (3, .int (nI i))])
    (kk : ∀ (c : Nat) (G B : Nat → Nat) (fX : Nat → Int32) (rX : Nat → Nat → Int32) (fM : Nat → Int32) (rM : Nat → Nat → Int32) (H : Heap) (locs : List Loc), stX L D N c G B fX rX → stM L D N c G B fM rM → iL DD dd AA s.heap hX aX fX rX hM aM fM rM H locs → W p l ee room_1 s m args below meth cd H locs 18 8596 Q (F0 m 457 ls [])) : W p l ee room_1 s m args below meth cd H locs 18 8596 Q (F0 m 251 ls []) := by
  obtain ⟨C, hXs, hbs, hbA, hS⟩ := C0
  have hx := C.1
  have hb := C.2.1
  have hN81 := sX.1.1.2.2.2.2.2.1
  refine lv_aload_n hx hb dL_law_251 rfl (lv_at hl 1 rfl) ?_
  refine callLX C I (metX_possible l DD dd hX aX fX rX sX) cwL_Xpossible cdX_possible ⟨Nat.le_of_ble_eq_true rfl, Nat.le_of_ble_eq_true rfl⟩ ⟨rfl, rfl⟩ rfl hl.1 (Nat.le_of_ble_eq_true rfl) dL_law_252 ⟨Nat.le_of_ble_eq_true rfl, Nat.le_of_ble_eq_true rfl⟩ rfl (fun v1 f1 r1 H locs hp1 I => ?_)
  refine lv_aload_n hx hb dL_law_255 rfl (lv_at hl 2 rfl) ?_
  refine callLM C I (metM_possible l DD dd hM aM fM rM sM) cwL_Mpossible cdM_possible ⟨Nat.le_of_ble_eq_true rfl, Nat.le_of_ble_eq_true rfl⟩ ⟨rfl, rfl⟩ rfl hl.1 (Nat.le_of_ble_eq_true rfl) dL_law_256 ⟨Nat.le_of_ble_eq_true rfl, Nat.le_of_ble_eq_true rfl⟩ rfl (fun v2 f2 r2 H locs hp2 I => ?_)
  have hv : v1 = v2 := hp1.1.trans hp2.1.symm
  have hs1 : stX L D N c G B f1 r1 := by rw [hp1.2.1, hp1.2.2]; exact sX
  have hs2 : stM L D N c G B f2 r2 := by rw [hp2.2.1, hp2.2.2]; exact sM
  refine lv_icmp_eq (tgt := 457) hx hb dL_law_259 (by decide) (fun _ => ?_) (fun q => absurd hv q)
  exact kk c G B _ _ _ _ _ _ hs1 hs2 I
set_option maxHeartbeats 4000000 in
theorem law_code (C0 : lawAt p s m args meth cd DD dd AA b S xs) (hi : i + 4 ≤ S) (I : iL DD dd AA s.heap hX aX fX rX hM aM fM rM H locs) (sX : stX L D N c G B fX rX) (sM : stM L D N c G B fM rM) (hl : lv_has ls 4 [(0, .ref b), (1, .ref hX), (2, .ref hM), (3, .int (nI i))])
    (kk : ∀ (c : Nat) (G B : Nat → Nat) (fX : Nat → Int32) (rX : Nat → Nat → Int32) (fM : Nat → Int32) (rM : Nat → Nat → Int32) (H : Heap) (locs : List Loc), stX L D N c G B fX rX → stM L D N c G B fM rM → iL DD dd AA s.heap hX aX fX rX hM aM fM rM H locs → W p l ee room_1 s m args below meth cd H locs 18 8596 Q (F0 m 457 ls [])) : W p l ee room_1 s m args below meth cd H locs 18 8596 Q (F0 m 264 ls []) := by
  obtain ⟨C, hXs, hbs, hbA, hS⟩ := C0
  have hx := C.1
  have hb := C.2.1
  have hN81 := sX.1.1.2.2.2.2.2.1
  refine lv_aload_n hx hb dL_law_264 rfl (lv_at hl 1 rfl) ?_
  refine lv_aload_n hx hb dL_law_265 rfl (lv_at hl 0 rfl) ?_
  refine lv_iload_n hx hb dL_law_266 rfl (lv_at hl 3 rfl) ?_
  refine lv_iconst (v := nI 1) hx hb dL_law_267 (by decide) ?_
  refine n_add hx hb dL_law_268 ?_
  refine sldL C hXs hbs hbA (by omega) I.1.2.2 (by omega) dL_law_269 ?_
  refine callLX C I (metX_code l DD dd hX aX fX rX (xs (i + 1)) sX) cwL_Xcode cdX_code ⟨Nat.le_of_ble_eq_true rfl, Nat.le_of_ble_eq_true rfl⟩ ⟨rfl, rfl⟩ rfl hl.1 (Nat.le_of_ble_eq_true rfl) dL_law_270 ⟨Nat.le_of_ble_eq_true rfl, Nat.le_of_ble_eq_true rfl⟩ rfl (fun v1 f1 r1 H locs hp1 I => ?_)
  refine lv_aload_n hx hb dL_law_273 rfl (lv_at hl 2 rfl) ?_
  refine lv_aload_n hx hb dL_law_274 rfl (lv_at hl 0 rfl) ?_
  refine lv_iload_n hx hb dL_law_275 rfl (lv_at hl 3 rfl) ?_
  refine lv_iconst (v := nI 1) hx hb dL_law_276 (by decide) ?_
  refine n_add hx hb dL_law_277 ?_
  refine sldL C hXs hbs hbA (by omega) I.1.2.2 (by omega) dL_law_278 ?_
  refine callLM C I (metM_code l DD dd hM aM fM rM (xs (i + 1)) sM) cwL_Mcode cdM_code ⟨Nat.le_of_ble_eq_true rfl, Nat.le_of_ble_eq_true rfl⟩ ⟨rfl, rfl⟩ rfl hl.1 (Nat.le_of_ble_eq_true rfl) dL_law_279 ⟨Nat.le_of_ble_eq_true rfl, Nat.le_of_ble_eq_true rfl⟩ rfl (fun v2 f2 r2 H locs hp2 I => ?_)
  have hv : v1 = v2 := hp1.1.trans hp2.1.symm
  have hs1 : stX L D N c G B f1 r1 := by rw [hp1.2.1, hp1.2.2]; exact sX
  have hs2 : stM L D N c G B f2 r2 := by rw [hp2.2.1, hp2.2.2]; exact sM
  refine lv_icmp_eq (tgt := 457) hx hb dL_law_282 (by decide) (fun _ => ?_) (fun q => absurd hv q)
  exact kk c G B _ _ _ _ _ _ hs1 hs2 I
set_option maxHeartbeats 4000000 in
theorem law_canBe (C0 : lawAt p s m args meth cd DD dd AA b S xs) (hi : i + 4 ≤ S) (I : iL DD dd AA s.heap hX aX fX rX hM aM fM rM H locs) (sX : stX L D N c G B fX rX) (sM : stM L D N c G B fM rM) (hl : lv_has ls 4 [(0, .ref b), (1, .ref hX), (2, .ref hM), (3, .int (nI i))])
    (kk : ∀ (c : Nat) (G B : Nat → Nat) (fX : Nat → Int32) (rX : Nat → Nat → Int32) (fM : Nat → Int32) (rM : Nat → Nat → Int32) (H : Heap) (locs : List Loc), stX L D N c G B fX rX → stM L D N c G B fM rM → iL DD dd AA s.heap hX aX fX rX hM aM fM rM H locs → W p l ee room_1 s m args below meth cd H locs 18 8596 Q (F0 m 457 ls [])) : W p l ee room_1 s m args below meth cd H locs 18 8596 Q (F0 m 287 ls []) := by
  obtain ⟨C, hXs, hbs, hbA, hS⟩ := C0
  have hx := C.1
  have hb := C.2.1
  have hN81 := sX.1.1.2.2.2.2.2.1
  refine lv_aload_n hx hb dL_law_287 rfl (lv_at hl 1 rfl) ?_
  refine lv_aload_n hx hb dL_law_288 rfl (lv_at hl 0 rfl) ?_
  refine lv_iload_n hx hb dL_law_289 rfl (lv_at hl 3 rfl) ?_
  refine lv_iconst (v := nI 1) hx hb dL_law_290 (by decide) ?_
  refine n_add hx hb dL_law_291 ?_
  refine sldL C hXs hbs hbA (by omega) I.1.2.2 (by omega) dL_law_292 ?_
  refine callLX C I (metX_canBe l DD dd hX aX fX rX (xs (i + 1)) sX) cwL_XcanBe cdX_canBe ⟨Nat.le_of_ble_eq_true rfl, Nat.le_of_ble_eq_true rfl⟩ ⟨rfl, rfl⟩ rfl hl.1 (Nat.le_of_ble_eq_true rfl) dL_law_293 ⟨Nat.le_of_ble_eq_true rfl, Nat.le_of_ble_eq_true rfl⟩ rfl (fun v1 f1 r1 H locs hp1 I => ?_)
  refine lv_aload_n hx hb dL_law_296 rfl (lv_at hl 2 rfl) ?_
  refine lv_aload_n hx hb dL_law_297 rfl (lv_at hl 0 rfl) ?_
  refine lv_iload_n hx hb dL_law_298 rfl (lv_at hl 3 rfl) ?_
  refine lv_iconst (v := nI 1) hx hb dL_law_299 (by decide) ?_
  refine n_add hx hb dL_law_300 ?_
  refine sldL C hXs hbs hbA (by omega) I.1.2.2 (by omega) dL_law_301 ?_
  refine callLM C I (metM_canBe l DD dd hM aM fM rM (xs (i + 1)) sM) cwL_McanBe cdM_canBe ⟨Nat.le_of_ble_eq_true rfl, Nat.le_of_ble_eq_true rfl⟩ ⟨rfl, rfl⟩ rfl hl.1 (Nat.le_of_ble_eq_true rfl) dL_law_302 ⟨Nat.le_of_ble_eq_true rfl, Nat.le_of_ble_eq_true rfl⟩ rfl (fun v2 f2 r2 H locs hp2 I => ?_)
  have hv : v1 = v2 := by
    rcases hp1.1 with ⟨e1, q1⟩ | ⟨e1, q1⟩ <;> rcases hp2.1 with ⟨e2, q2⟩ | ⟨e2, q2⟩
    · rw [e1, e2]
    · exact absurd q1 q2
    · exact absurd q2 q1
    · rw [e1, e2]
  have hs1 : stX L D N c G B f1 r1 := by rw [hp1.2.1, hp1.2.2]; exact sX
  have hs2 : stM L D N c G B f2 r2 := by rw [hp2.2.1, hp2.2.2]; exact sM
  refine lv_icmp_eq (tgt := 457) hx hb dL_law_305 (by decide) (fun _ => ?_) (fun q => absurd hv q)
  exact kk c G B _ _ _ _ _ _ hs1 hs2 I
set_option maxHeartbeats 4000000 in
theorem law_parts (C0 : lawAt p s m args meth cd DD dd AA b S xs) (hi : i + 4 ≤ S) (I : iL DD dd AA s.heap hX aX fX rX hM aM fM rM H locs) (sX : stX L D N c G B fX rX) (sM : stM L D N c G B fM rM) (hl : lv_has ls 4 [(0, .ref b), (1, .ref hX), (2, .ref hM), (3, .int (nI i))])
    (kk : ∀ (c : Nat) (G B : Nat → Nat) (fX : Nat → Int32) (rX : Nat → Nat → Int32) (fM : Nat → Int32) (rM : Nat → Nat → Int32) (H : Heap) (locs : List Loc), stX L D N c G B fX rX → stM L D N c G B fM rM → iL DD dd AA s.heap hX aX fX rX hM aM fM rM H locs → W p l ee room_1 s m args below meth cd H locs 18 8596 Q (F0 m 457 ls [])) : W p l ee room_1 s m args below meth cd H locs 18 8596 Q (F0 m 310 ls []) := by
  obtain ⟨C, hXs, hbs, hbA, hS⟩ := C0
  have hx := C.1
  have hb := C.2.1
  have hN81 := sX.1.1.2.2.2.2.2.1
  refine lv_aload_n hx hb dL_law_310 rfl (lv_at hl 1 rfl) ?_
  refine lv_aload_n hx hb dL_law_311 rfl (lv_at hl 0 rfl) ?_
  refine lv_iload_n hx hb dL_law_312 rfl (lv_at hl 3 rfl) ?_
  refine lv_iconst (v := nI 1) hx hb dL_law_313 (by decide) ?_
  refine n_add hx hb dL_law_314 ?_
  refine sldL C hXs hbs hbA (by omega) I.1.2.2 (by omega) dL_law_315 ?_
  refine callLX C I (metX_parts l DD dd hX aX fX rX (xs (i + 1)) sX) cwL_Xparts cdX_parts ⟨Nat.le_of_ble_eq_true rfl, Nat.le_of_ble_eq_true rfl⟩ ⟨rfl, rfl⟩ rfl hl.1 (Nat.le_of_ble_eq_true rfl) dL_law_316 ⟨Nat.le_of_ble_eq_true rfl, Nat.le_of_ble_eq_true rfl⟩ rfl (fun v1 f1 r1 H locs hp1 I => ?_)
  refine lv_aload_n hx hb dL_law_319 rfl (lv_at hl 2 rfl) ?_
  refine lv_aload_n hx hb dL_law_320 rfl (lv_at hl 0 rfl) ?_
  refine lv_iload_n hx hb dL_law_321 rfl (lv_at hl 3 rfl) ?_
  refine lv_iconst (v := nI 1) hx hb dL_law_322 (by decide) ?_
  refine n_add hx hb dL_law_323 ?_
  refine sldL C hXs hbs hbA (by omega) I.1.2.2 (by omega) dL_law_324 ?_
  refine callLM C I (metM_parts l DD dd hM aM fM rM (xs (i + 1)) sM) cwL_Mparts cdM_parts ⟨Nat.le_of_ble_eq_true rfl, Nat.le_of_ble_eq_true rfl⟩ ⟨rfl, rfl⟩ rfl hl.1 (Nat.le_of_ble_eq_true rfl) dL_law_325 ⟨Nat.le_of_ble_eq_true rfl, Nat.le_of_ble_eq_true rfl⟩ rfl (fun v2 f2 r2 H locs hp2 I => ?_)
  have hv : v1 = v2 := by
    rcases hp1.1 with ⟨e1, q1⟩ | ⟨g1, a1, a2, a3⟩ <;> rcases hp2.1 with ⟨e2, q2⟩ | ⟨g2, b1, b2, b3⟩
    · rw [e1, e2]
    · exact absurd ⟨g2, b1, b2⟩ q1
    · exact absurd ⟨g1, a1, a2⟩ q2
    · have e := (nI_eq (by omega) (by omega)).mp (a2.symm.trans b2)
      subst e
      rw [a3, b3]
  have hs1 := hp1.2
  have hs2 := hp2.2
  refine lv_icmp_eq (tgt := 457) hx hb dL_law_328 (by decide) (fun _ => ?_) (fun q => absurd hv q)
  exact kk c G B _ _ _ _ _ _ hs1 hs2 I
set_option maxHeartbeats 4000000 in
theorem law_worst (C0 : lawAt p s m args meth cd DD dd AA b S xs) (hi : i + 4 ≤ S) (I : iL DD dd AA s.heap hX aX fX rX hM aM fM rM H locs) (sX : stX L D N c G B fX rX) (sM : stM L D N c G B fM rM) (hl : lv_has ls 4 [(0, .ref b), (1, .ref hX), (2, .ref hM), (3, .int (nI i))])
    (kk : ∀ (c : Nat) (G B : Nat → Nat) (fX : Nat → Int32) (rX : Nat → Nat → Int32) (fM : Nat → Int32) (rM : Nat → Nat → Int32) (H : Heap) (locs : List Loc), stX L D N c G B fX rX → stM L D N c G B fM rM → iL DD dd AA s.heap hX aX fX rX hM aM fM rM H locs → W p l ee room_1 s m args below meth cd H locs 18 8596 Q (F0 m 457 ls [])) : W p l ee room_1 s m args below meth cd H locs 18 8596 Q (F0 m 333 ls []) := by
  obtain ⟨C, hXs, hbs, hbA, hS⟩ := C0
  have hx := C.1
  have hb := C.2.1
  have hN81 := sX.1.1.2.2.2.2.2.1
  refine lv_aload_n hx hb dL_law_333 rfl (lv_at hl 1 rfl) ?_
  refine lv_aload_n hx hb dL_law_334 rfl (lv_at hl 0 rfl) ?_
  refine lv_iload_n hx hb dL_law_335 rfl (lv_at hl 3 rfl) ?_
  refine lv_iconst (v := nI 1) hx hb dL_law_336 (by decide) ?_
  refine n_add hx hb dL_law_337 ?_
  refine sldL C hXs hbs hbA (by omega) I.1.2.2 (by omega) dL_law_338 ?_
  refine callLX C I (metX_worst l DD dd hX aX fX rX (xs (i + 1)) sX) cwL_Xworst cdX_worst ⟨Nat.le_of_ble_eq_true rfl, Nat.le_of_ble_eq_true rfl⟩ ⟨rfl, rfl⟩ rfl hl.1 (Nat.le_of_ble_eq_true rfl) dL_law_339 ⟨Nat.le_of_ble_eq_true rfl, Nat.le_of_ble_eq_true rfl⟩ rfl (fun v1 f1 r1 H locs hp1 I => ?_)
  refine lv_aload_n hx hb dL_law_342 rfl (lv_at hl 2 rfl) ?_
  refine lv_aload_n hx hb dL_law_343 rfl (lv_at hl 0 rfl) ?_
  refine lv_iload_n hx hb dL_law_344 rfl (lv_at hl 3 rfl) ?_
  refine lv_iconst (v := nI 1) hx hb dL_law_345 (by decide) ?_
  refine n_add hx hb dL_law_346 ?_
  refine sldL C hXs hbs hbA (by omega) I.1.2.2 (by omega) dL_law_347 ?_
  refine callLM C I (metM_worst l DD dd hM aM fM rM (xs (i + 1)) sM) cwL_Mworst cdM_worst ⟨Nat.le_of_ble_eq_true rfl, Nat.le_of_ble_eq_true rfl⟩ ⟨rfl, rfl⟩ rfl hl.1 (Nat.le_of_ble_eq_true rfl) dL_law_348 ⟨Nat.le_of_ble_eq_true rfl, Nat.le_of_ble_eq_true rfl⟩ rfl (fun v2 f2 r2 H locs hp2 I => ?_)
  have hv : v1 = v2 := by
    rcases hp1.1 with ⟨e1, q1⟩ | ⟨g1, a1, a2, a3⟩ <;> rcases hp2.1 with ⟨e2, q2⟩ | ⟨g2, b1, b2, b3⟩
    · rw [e1, e2]
    · exact absurd ⟨g2, b1, b2⟩ q1
    · exact absurd ⟨g1, a1, a2⟩ q2
    · have e := (nI_eq (by omega) (by omega)).mp (a2.symm.trans b2)
      subst e
      rw [a3, b3]
  have hs1 := hp1.2
  have hs2 := hp2.2
  refine lv_icmp_eq (tgt := 457) hx hb dL_law_351 (by decide) (fun _ => ?_) (fun q => absurd hv q)
  exact kk c G B _ _ _ _ _ _ hs1 hs2 I
set_option maxHeartbeats 4000000 in
theorem law_weight (C0 : lawAt p s m args meth cd DD dd AA b S xs) (hi : i + 4 ≤ S) (I : iL DD dd AA s.heap hX aX fX rX hM aM fM rM H locs) (sX : stX L D N c G B fX rX) (sM : stM L D N c G B fM rM) (hl : lv_has ls 4 [(0, .ref b), (1, .ref hX), (2, .ref hM), (3, .int (nI i))])
    (kk : ∀ (c : Nat) (G B : Nat → Nat) (fX : Nat → Int32) (rX : Nat → Nat → Int32) (fM : Nat → Int32) (rM : Nat → Nat → Int32) (H : Heap) (locs : List Loc), stX L D N c G B fX rX → stM L D N c G B fM rM → iL DD dd AA s.heap hX aX fX rX hM aM fM rM H locs → W p l ee room_1 s m args below meth cd H locs 18 8596 Q (F0 m 457 ls [])) : W p l ee room_1 s m args below meth cd H locs 18 8596 Q (F0 m 356 ls []) := by
  obtain ⟨C, hXs, hbs, hbA, hS⟩ := C0
  have hx := C.1
  have hb := C.2.1
  have hN81 := sX.1.1.2.2.2.2.2.1
  refine lv_aload_n hx hb dL_law_356 rfl (lv_at hl 1 rfl) ?_
  refine lv_aload_n hx hb dL_law_357 rfl (lv_at hl 0 rfl) ?_
  refine lv_iload_n hx hb dL_law_358 rfl (lv_at hl 3 rfl) ?_
  refine lv_iconst (v := nI 1) hx hb dL_law_359 (by decide) ?_
  refine n_add hx hb dL_law_360 ?_
  refine sldL C hXs hbs hbA (by omega) I.1.2.2 (by omega) dL_law_361 ?_
  refine callLX C I (metX_weight l DD dd hX aX fX rX (xs (i + 1)) sX) cwL_Xweight cdX_weight ⟨Nat.le_of_ble_eq_true rfl, Nat.le_of_ble_eq_true rfl⟩ ⟨rfl, rfl⟩ rfl hl.1 (Nat.le_of_ble_eq_true rfl) dL_law_362 ⟨Nat.le_of_ble_eq_true rfl, Nat.le_of_ble_eq_true rfl⟩ rfl (fun v1 f1 r1 H locs hp1 I => ?_)
  refine lv_aload_n hx hb dL_law_365 rfl (lv_at hl 2 rfl) ?_
  refine lv_aload_n hx hb dL_law_366 rfl (lv_at hl 0 rfl) ?_
  refine lv_iload_n hx hb dL_law_367 rfl (lv_at hl 3 rfl) ?_
  refine lv_iconst (v := nI 1) hx hb dL_law_368 (by decide) ?_
  refine n_add hx hb dL_law_369 ?_
  refine sldL C hXs hbs hbA (by omega) I.1.2.2 (by omega) dL_law_370 ?_
  refine callLM C I (metM_weight l DD dd hM aM fM rM (xs (i + 1)) sM) cwL_Mweight cdM_weight ⟨Nat.le_of_ble_eq_true rfl, Nat.le_of_ble_eq_true rfl⟩ ⟨rfl, rfl⟩ rfl hl.1 (Nat.le_of_ble_eq_true rfl) dL_law_371 ⟨Nat.le_of_ble_eq_true rfl, Nat.le_of_ble_eq_true rfl⟩ rfl (fun v2 f2 r2 H locs hp2 I => ?_)
  have hv : v1 = v2 := by
    rcases hp1.1 with ⟨e1, q1⟩ | ⟨g1, a1, a2, a3⟩ <;> rcases hp2.1 with ⟨e2, q2⟩ | ⟨g2, b1, b2, b3⟩
    · rw [e1, e2]
    · exact absurd ⟨g2, b1, b2⟩ q1
    · exact absurd ⟨g1, a1, a2⟩ q2
    · have e := (nI_eq (by omega) (by omega)).mp (a2.symm.trans b2)
      subst e
      rw [a3, b3]
  have hs1 := hp1.2
  have hs2 := hp2.2
  refine lv_icmp_eq (tgt := 457) hx hb dL_law_374 (by decide) (fun _ => ?_) (fun q => absurd hv q)
  exact kk c G B _ _ _ _ _ _ hs1 hs2 I
set_option maxHeartbeats 4000000 in
theorem law_safest (C0 : lawAt p s m args meth cd DD dd AA b S xs) (hi : i + 4 ≤ S) (I : iL DD dd AA s.heap hX aX fX rX hM aM fM rM H locs) (sX : stX L D N c G B fX rX) (sM : stM L D N c G B fM rM) (hl : lv_has ls 4 [(0, .ref b), (1, .ref hX), (2, .ref hM), (3, .int (nI i))])
    (kk : ∀ (c : Nat) (G B : Nat → Nat) (fX : Nat → Int32) (rX : Nat → Nat → Int32) (fM : Nat → Int32) (rM : Nat → Nat → Int32) (H : Heap) (locs : List Loc), stX L D N c G B fX rX → stM L D N c G B fM rM → iL DD dd AA s.heap hX aX fX rX hM aM fM rM H locs → W p l ee room_1 s m args below meth cd H locs 18 8596 Q (F0 m 457 ls [])) : W p l ee room_1 s m args below meth cd H locs 18 8596 Q (F0 m 379 ls []) := by
  obtain ⟨C, hXs, hbs, hbA, hS⟩ := C0
  have hx := C.1
  have hb := C.2.1
  have hN81 := sX.1.1.2.2.2.2.2.1
  refine lv_aload_n hx hb dL_law_379 rfl (lv_at hl 1 rfl) ?_
  refine callLX C I (metX_safest l DD dd hX aX fX rX sX) cwL_Xsafest cdX_safest ⟨Nat.le_of_ble_eq_true rfl, Nat.le_of_ble_eq_true rfl⟩ ⟨rfl, rfl⟩ rfl hl.1 (Nat.le_of_ble_eq_true rfl) dL_law_380 ⟨Nat.le_of_ble_eq_true rfl, Nat.le_of_ble_eq_true rfl⟩ rfl (fun v1 f1 r1 H locs hp1 I => ?_)
  refine lv_aload_n hx hb dL_law_383 rfl (lv_at hl 2 rfl) ?_
  refine callLM C I (metM_safest l DD dd hM aM fM rM sM) cwL_Msafest cdM_safest ⟨Nat.le_of_ble_eq_true rfl, Nat.le_of_ble_eq_true rfl⟩ ⟨rfl, rfl⟩ rfl hl.1 (Nat.le_of_ble_eq_true rfl) dL_law_384 ⟨Nat.le_of_ble_eq_true rfl, Nat.le_of_ble_eq_true rfl⟩ rfl (fun v2 f2 r2 H locs hp2 I => ?_)
  have hv : v1 = v2 := by
    rcases hp1.1 with ⟨e1, q1⟩ | ⟨e1, q1⟩ <;> rcases hp2.1 with ⟨e2, q2⟩ | ⟨e2, q2⟩
    · rw [e1, e2]
    · omega
    · omega
    · rw [e1, e2]
  have hs1 := hp1.2
  have hs2 := hp2.2
  refine lv_icmp_eq (tgt := 457) hx hb dL_law_387 (by decide) (fun _ => ?_) (fun q => absurd hv q)
  exact kk c G B _ _ _ _ _ _ hs1 hs2 I
set_option maxHeartbeats 4000000 in
theorem law_sharpest (C0 : lawAt p s m args meth cd DD dd AA b S xs) (hi : i + 4 ≤ S) (I : iL DD dd AA s.heap hX aX fX rX hM aM fM rM H locs) (sX : stX L D N c G B fX rX) (sM : stM L D N c G B fM rM) (hl : lv_has ls 4 [(0, .ref b), (1, .ref hX), (2, .ref hM), (3, .int (nI i))])
    (kk : ∀ (c : Nat) (G B : Nat → Nat) (fX : Nat → Int32) (rX : Nat → Nat → Int32) (fM : Nat → Int32) (rM : Nat → Nat → Int32) (H : Heap) (locs : List Loc), stX L D N c G B fX rX → stM L D N c G B fM rM → iL DD dd AA s.heap hX aX fX rX hM aM fM rM H locs → W p l ee room_1 s m args below meth cd H locs 18 8596 Q (F0 m 457 ls [])) : W p l ee room_1 s m args below meth cd H locs 18 8596 Q (F0 m 392 ls []) := by
  obtain ⟨C, hXs, hbs, hbA, hS⟩ := C0
  have hx := C.1
  have hb := C.2.1
  have hN81 := sX.1.1.2.2.2.2.2.1
  refine lv_aload_n hx hb dL_law_392 rfl (lv_at hl 1 rfl) ?_
  refine callLX C I (metX_sharpest l DD dd hX aX fX rX sX) cwL_Xsharpest cdX_sharpest ⟨Nat.le_of_ble_eq_true rfl, Nat.le_of_ble_eq_true rfl⟩ ⟨rfl, rfl⟩ rfl hl.1 (Nat.le_of_ble_eq_true rfl) dL_law_393 ⟨Nat.le_of_ble_eq_true rfl, Nat.le_of_ble_eq_true rfl⟩ rfl (fun v1 f1 r1 H locs hp1 I => ?_)
  refine lv_aload_n hx hb dL_law_396 rfl (lv_at hl 2 rfl) ?_
  refine callLM C I (metM_sharpest l DD dd hM aM fM rM sM) cwL_Msharpest cdM_sharpest ⟨Nat.le_of_ble_eq_true rfl, Nat.le_of_ble_eq_true rfl⟩ ⟨rfl, rfl⟩ rfl hl.1 (Nat.le_of_ble_eq_true rfl) dL_law_397 ⟨Nat.le_of_ble_eq_true rfl, Nat.le_of_ble_eq_true rfl⟩ rfl (fun v2 f2 r2 H locs hp2 I => ?_)
  have hv : v1 = v2 := by
    rcases hp1.1 with ⟨e1, q1⟩ | ⟨e1, q1⟩ <;> rcases hp2.1 with ⟨e2, q2⟩ | ⟨e2, q2⟩
    · rw [e1, e2]
    · omega
    · omega
    · rw [e1, e2]
  have hs1 := hp1.2
  have hs2 := hp2.2
  refine lv_icmp_eq (tgt := 457) hx hb dL_law_400 (by decide) (fun _ => ?_) (fun q => absurd hv q)
  exact kk c G B _ _ _ _ _ _ hs1 hs2 I
set_option maxHeartbeats 4000000 in
theorem law_need (C0 : lawAt p s m args meth cd DD dd AA b S xs) (hi : i + 4 ≤ S) (I : iL DD dd AA s.heap hX aX fX rX hM aM fM rM H locs) (sX : stX L D N c G B fX rX) (sM : stM L D N c G B fM rM) (hl : lv_has ls 4 [(0, .ref b), (1, .ref hX), (2, .ref hM), (3, .int (nI i))])
    (kk : ∀ (c : Nat) (G B : Nat → Nat) (fX : Nat → Int32) (rX : Nat → Nat → Int32) (fM : Nat → Int32) (rM : Nat → Nat → Int32) (H : Heap) (locs : List Loc), stX L D N c G B fX rX → stM L D N c G B fM rM → iL DD dd AA s.heap hX aX fX rX hM aM fM rM H locs → W p l ee room_1 s m args below meth cd H locs 18 8596 Q (F0 m 457 ls [])) : W p l ee room_1 s m args below meth cd H locs 18 8596 Q (F0 m 405 ls []) := by
  obtain ⟨C, hXs, hbs, hbA, hS⟩ := C0
  have hx := C.1
  have hb := C.2.1
  have hN81 := sX.1.1.2.2.2.2.2.1
  refine lv_aload_n hx hb dL_law_405 rfl (lv_at hl 1 rfl) ?_
  refine callLX C I (metX_need l DD dd hX aX fX rX sX) cwL_Xneed cdX_need ⟨Nat.le_of_ble_eq_true rfl, Nat.le_of_ble_eq_true rfl⟩ ⟨rfl, rfl⟩ rfl hl.1 (Nat.le_of_ble_eq_true rfl) dL_law_406 ⟨Nat.le_of_ble_eq_true rfl, Nat.le_of_ble_eq_true rfl⟩ rfl (fun v1 f1 r1 H locs hp1 I => ?_)
  refine lv_aload_n hx hb dL_law_409 rfl (lv_at hl 2 rfl) ?_
  refine callLM C I (metM_need l DD dd hM aM fM rM sM) cwL_Mneed cdM_need ⟨Nat.le_of_ble_eq_true rfl, Nat.le_of_ble_eq_true rfl⟩ ⟨rfl, rfl⟩ rfl hl.1 (Nat.le_of_ble_eq_true rfl) dL_law_410 ⟨Nat.le_of_ble_eq_true rfl, Nat.le_of_ble_eq_true rfl⟩ rfl (fun v2 f2 r2 H locs hp2 I => ?_)
  have hv : v1 = v2 := by
    rcases hp1.1 with ⟨e1, q1⟩ | ⟨q1, e1⟩ <;> rcases hp2.1 with ⟨e2, q2⟩ | ⟨q2, e2⟩
    · rw [e1, e2]
    · omega
    · omega
    · rw [e1, e2]
  have hs1 := hp1.2
  have hs2 := hp2.2
  refine lv_icmp_eq (tgt := 457) hx hb dL_law_413 (by decide) (fun _ => ?_) (fun q => absurd hv q)
  exact kk c G B _ _ _ _ _ _ hs1 hs2 I
set_option maxHeartbeats 4000000 in
theorem law_needKept (C0 : lawAt p s m args meth cd DD dd AA b S xs) (hi : i + 4 ≤ S) (I : iL DD dd AA s.heap hX aX fX rX hM aM fM rM H locs) (sX : stX L D N c G B fX rX) (sM : stM L D N c G B fM rM) (hl : lv_has ls 4 [(0, .ref b), (1, .ref hX), (2, .ref hM), (3, .int (nI i))])
    (kk : ∀ (c : Nat) (G B : Nat → Nat) (fX : Nat → Int32) (rX : Nat → Nat → Int32) (fM : Nat → Int32) (rM : Nat → Nat → Int32) (H : Heap) (locs : List Loc), stX L D N c G B fX rX → stM L D N c G B fM rM → iL DD dd AA s.heap hX aX fX rX hM aM fM rM H locs → W p l ee room_1 s m args below meth cd H locs 18 8596 Q (F0 m 457 ls [])) : W p l ee room_1 s m args below meth cd H locs 18 8596 Q (F0 m 418 ls []) := by
  obtain ⟨C, hXs, hbs, hbA, hS⟩ := C0
  have hx := C.1
  have hb := C.2.1
  have hN81 := sX.1.1.2.2.2.2.2.1
  refine lv_aload_n hx hb dL_law_418 rfl (lv_at hl 1 rfl) ?_
  refine callLX C I (metX_needKept l DD dd hX aX fX rX sX) cwL_XneedKept cdX_needKept ⟨Nat.le_of_ble_eq_true rfl, Nat.le_of_ble_eq_true rfl⟩ ⟨rfl, rfl⟩ rfl hl.1 (Nat.le_of_ble_eq_true rfl) dL_law_419 ⟨Nat.le_of_ble_eq_true rfl, Nat.le_of_ble_eq_true rfl⟩ rfl (fun v1 f1 r1 H locs hp1 I => ?_)
  refine lv_aload_n hx hb dL_law_422 rfl (lv_at hl 2 rfl) ?_
  refine callLM C I (metM_needKept l DD dd hM aM fM rM sM) cwL_MneedKept cdM_needKept ⟨Nat.le_of_ble_eq_true rfl, Nat.le_of_ble_eq_true rfl⟩ ⟨rfl, rfl⟩ rfl hl.1 (Nat.le_of_ble_eq_true rfl) dL_law_423 ⟨Nat.le_of_ble_eq_true rfl, Nat.le_of_ble_eq_true rfl⟩ rfl (fun v2 f2 r2 H locs hp2 I => ?_)
  have hv : v1 = v2 := by
    rcases hp1.1 with ⟨e1, q1⟩ | ⟨q1, e1⟩ <;> rcases hp2.1 with ⟨e2, q2⟩ | ⟨q2, e2⟩
    · rw [e1, e2]
    · omega
    · omega
    · rw [e1, e2]
  have hs1 := hp1.2
  have hs2 := hp2.2
  refine lv_icmp_eq (tgt := 457) hx hb dL_law_426 (by decide) (fun _ => ?_) (fun q => absurd hv q)
  exact kk c G B _ _ _ _ _ _ hs1 hs2 I
set_option maxHeartbeats 4000000 in
theorem law_first (C0 : lawAt p s m args meth cd DD dd AA b S xs) (hi : i + 4 ≤ S) (I : iL DD dd AA s.heap hX aX fX rX hM aM fM rM H locs) (sX : stX L D N c G B fX rX) (sM : stM L D N c G B fM rM) (hl : lv_has ls 4 [(0, .ref b), (1, .ref hX), (2, .ref hM), (3, .int (nI i))])
    (kk : ∀ (c : Nat) (G B : Nat → Nat) (fX : Nat → Int32) (rX : Nat → Nat → Int32) (fM : Nat → Int32) (rM : Nat → Nat → Int32) (H : Heap) (locs : List Loc), stX L D N c G B fX rX → stM L D N c G B fM rM → iL DD dd AA s.heap hX aX fX rX hM aM fM rM H locs → W p l ee room_1 s m args below meth cd H locs 18 8596 Q (F0 m 457 ls [])) : W p l ee room_1 s m args below meth cd H locs 18 8596 Q (F0 m 431 ls []) := by
  obtain ⟨C, hXs, hbs, hbA, hS⟩ := C0
  have hx := C.1
  have hb := C.2.1
  have hN81 := sX.1.1.2.2.2.2.2.1
  refine lv_aload_n hx hb dL_law_431 rfl (lv_at hl 1 rfl) ?_
  refine callLX C I (metX_first l DD dd hX aX fX rX sX) cwL_Xfirst cdX_first ⟨Nat.le_of_ble_eq_true rfl, Nat.le_of_ble_eq_true rfl⟩ ⟨rfl, rfl⟩ rfl hl.1 (Nat.le_of_ble_eq_true rfl) dL_law_432 ⟨Nat.le_of_ble_eq_true rfl, Nat.le_of_ble_eq_true rfl⟩ rfl (fun v1 f1 r1 H locs hp1 I => ?_)
  refine lv_aload_n hx hb dL_law_435 rfl (lv_at hl 2 rfl) ?_
  refine callLM C I (metM_first l DD dd hM aM fM rM sM) cwL_Mfirst cdM_first ⟨Nat.le_of_ble_eq_true rfl, Nat.le_of_ble_eq_true rfl⟩ ⟨rfl, rfl⟩ rfl hl.1 (Nat.le_of_ble_eq_true rfl) dL_law_436 ⟨Nat.le_of_ble_eq_true rfl, Nat.le_of_ble_eq_true rfl⟩ rfl (fun v2 f2 r2 H locs hp2 I => ?_)
  have hv : v1 = v2 := by
    rcases hp1.1 with ⟨e1, q1⟩ | ⟨q1, ⟨z1, e1⟩ | ⟨z1, e1⟩⟩ <;> rcases hp2.1 with ⟨e2, q2⟩ | ⟨q2, ⟨z2, e2⟩ | ⟨z2, e2⟩⟩
    · rw [e1, e2]
    · omega
    · omega
    · omega
    · rw [e1, e2]
    · omega
    · omega
    · omega
    · rw [e1, e2]
  have hs1 := hp1.2
  have hs2 := hp2.2
  refine lv_icmp_eq (tgt := 457) hx hb dL_law_439 (by decide) (fun _ => ?_) (fun q => absurd hv q)
  exact kk c G B _ _ _ _ _ _ hs1 hs2 I
set_option maxHeartbeats 4000000 in
theorem law_useful (C0 : lawAt p s m args meth cd DD dd AA b S xs) (hi : i + 4 ≤ S) (I : iL DD dd AA s.heap hX aX fX rX hM aM fM rM H locs) (sX : stX L D N c G B fX rX) (sM : stM L D N c G B fM rM) (hl : lv_has ls 4 [(0, .ref b), (1, .ref hX), (2, .ref hM), (3, .int (nI i))])
    (kk : ∀ (c : Nat) (G B : Nat → Nat) (fX : Nat → Int32) (rX : Nat → Nat → Int32) (fM : Nat → Int32) (rM : Nat → Nat → Int32) (H : Heap) (locs : List Loc), stX L D N c G B fX rX → stM L D N c G B fM rM → iL DD dd AA s.heap hX aX fX rX hM aM fM rM H locs → W p l ee room_1 s m args below meth cd H locs 18 8596 Q (F0 m 457 ls [])) : W p l ee room_1 s m args below meth cd H locs 18 8596 Q (F0 m 444 ls []) := by
  obtain ⟨C, hXs, hbs, hbA, hS⟩ := C0
  have hx := C.1
  have hb := C.2.1
  have hN81 := sX.1.1.2.2.2.2.2.1
  refine lv_aload_n hx hb dL_law_444 rfl (lv_at hl 1 rfl) ?_
  refine callLX C I (metX_useful l DD dd hX aX fX rX sX) cwL_Xuseful cdX_useful ⟨Nat.le_of_ble_eq_true rfl, Nat.le_of_ble_eq_true rfl⟩ ⟨rfl, rfl⟩ rfl hl.1 (Nat.le_of_ble_eq_true rfl) dL_law_445 ⟨Nat.le_of_ble_eq_true rfl, Nat.le_of_ble_eq_true rfl⟩ rfl (fun v1 f1 r1 H locs hp1 I => ?_)
  refine lv_aload_n hx hb dL_law_448 rfl (lv_at hl 2 rfl) ?_
  refine callLM C I (metM_useful l DD dd hM aM fM rM sM) cwL_Museful cdM_useful ⟨Nat.le_of_ble_eq_true rfl, Nat.le_of_ble_eq_true rfl⟩ ⟨rfl, rfl⟩ rfl hl.1 (Nat.le_of_ble_eq_true rfl) dL_law_449 ⟨Nat.le_of_ble_eq_true rfl, Nat.le_of_ble_eq_true rfl⟩ rfl (fun v2 f2 r2 H locs hp2 I => ?_)
  have hv : v1 = v2 := hp1.1.trans ((congrArg nI (cbUse_eq sX.2.1)).symm.trans hp2.1.symm)
  have hs1 : stX L D N c G B f1 r1 := by rw [hp1.2.1, hp1.2.2]; exact sX
  have hs2 : stM L D N c G B f2 r2 := by rw [hp2.2.1, hp2.2.2]; exact sM
  refine lv_icmp_eq (tgt := 457) hx hb dL_law_452 (by decide) (fun _ => ?_) (fun q => absurd hv q)
  exact kk c G B _ _ _ _ _ _ hs1 hs2 I
end LAWCASES
end
section
set_option maxRecDepth 100000
theorem cb_loopc {S i : Nat} (hS : S ≤ 258) (hi : i ≤ 300) : (nI S - nI 4 < nI i) ↔ S < i + 4 := by
  rw [Int32.lt_iff_toInt_lt, pk_sub_toInt (by omega) (by omega), nI_toInt (by omega)]
  omega
set_option maxHeartbeats 4000000 in
theorem law_loop {p : Program} {l : Launch} {ee : Env} {s : State} {m : MethodId} {args : Array Value} {below : List Frame} {meth : Method} {cd : Code} {DD : va_G} {dd : ClassId} {AA : Nat → Prop} {Q : State → Prop} {hX hM : Nat} {aX aM : Nat → Nat} {b S : Nat} {xs : Nat → Int32} {L D N : Nat}
    (C0 : lawAt p s m args meth cd DD dd AA b S xs) (fin : ∀ (H : Heap) (locs : List Loc) (ls : Array Slot), va_S AA s.heap H locs → W p l ee room_1 s m args below meth cd H locs 18 8596 Q (F0 m 463 ls [])) :
    ∀ (n i c : Nat) (G B : Nat → Nat) (fX : Nat → Int32) (rX : Nat → Nat → Int32) (fM : Nat → Int32) (rM : Nat → Nat → Int32) (H : Heap) (locs : List Loc) (ls : Array Slot), 300 < i + n → i ≤ 300 → iL DD dd AA s.heap hX aX fX rX hM aM fM rM H locs → stX L D N c G B fX rX → stM L D N c G B fM rM → lv_has ls 4 [(0, .ref b), (1, .ref hX), (2, .ref hM), (3, .int (nI i))] → W p l ee room_1 s m args below meth cd H locs 18 8596 Q (F0 m 38 ls []) := by
  intro n
  induction n with
  | zero => intros; exfalso; omega
  | succ n ih =>
    intro i c G B fX rX fM rM H locs ls h1 h2 I sX sM hl
    obtain ⟨C, hXs, hbs, hbA, hS⟩ := C0
    have hx := C.1
    have hb := C.2.1
    refine lv_iload_n hx hb dL_law_38 rfl (lv_at hl 3 rfl) ?_
    refine lv_aload_n hx hb dL_law_39 rfl (lv_at hl 0 rfl) ?_
    refine va_slen hx hb hXs hbs hbA I.1.2.2 dL_law_40 ?_
    refine lv_iconst (v := nI 4) hx hb dL_law_41 (by decide) ?_
    refine lv_isub hx hb dL_law_42 ?_
    refine lv_icmp_gt (tgt := 463) hx hb dL_law_43 (by decide) (fun c43 => ?_) (fun c43 => ?_)
    · exact fin H locs ls I.1.2.2
    · have hi : i + 4 ≤ S := by
        have := mt (cb_loopc hS h2).mpr c43
        omega
      have next : ∀ (c : Nat) (G B : Nat → Nat) (fX : Nat → Int32) (rX : Nat → Nat → Int32) (fM : Nat → Int32) (rM : Nat → Nat → Int32) (H : Heap) (locs : List Loc), stX L D N c G B fX rX → stM L D N c G B fM rM → iL DD dd AA s.heap hX aX fX rX hM aM fM rM H locs → W p l ee room_1 s m args below meth cd H locs 18 8596 Q (F0 m 457 ls []) := by
        intro c G B fX rX fM rM H locs sX sM I
        refine lv_iinc (v := nI (i + 4)) (lv' := [(3, .int (nI (i + 4))), (0, .ref b), (1, .ref hX), (2, .ref hM)]) hx hb dL_law_457 hl (k := 3) rfl (by rw [← nI_add]; rfl) (by decide) rfl (fun ls hl => ?_)
        refine lv_goto (tgt := 38) hx hb dL_law_460 (by decide) ?_
        exact ih (i + 4) c G B fX rX fM rM H locs ls (by omega) (by omega) I sX sM (lv_sub hl [1, 2, 3, 0] rfl)
      refine lv_aload_n hx hb dL_law_46 rfl (lv_at hl 0 rfl) ?_
      refine lv_iload_n hx hb dL_law_47 rfl (lv_at hl 3 rfl) ?_
      refine sldL C hXs hbs hbA (by omega) I.1.2.2 (by omega) dL_law_48 ?_
      refine lv_bipush (v := nI 31) hx hb dL_law_49 (by decide) ?_
      refine lv_iand hx hb dL_law_51 ?_
      obtain ⟨j, hj, ej⟩ := pk_andE (xs i) (m := nI 31) 5 (by decide)
      rw [ej]
      have C0 : lawAt p s m args meth cd DD dd AA b S xs := ⟨C, hXs, hbs, hbA, hS⟩
      by_cases h0 : j = 0
      · subst h0
        refine lv_tableIn (off := 84) (tgt := 136) hx hb dL_law_52 (by decide) (by decide) rfl (by decide) ?_
        exact law_codes C0 hi I sX sM hl next
      by_cases h1 : j = 1
      · subst h1
        refine lv_tableIn (off := 97) (tgt := 149) hx hb dL_law_52 (by decide) (by decide) rfl (by decide) ?_
        exact law_answer C0 hi I sX sM hl next
      by_cases h2 : j = 2
      · subst h2
        refine lv_tableIn (off := 130) (tgt := 182) hx hb dL_law_52 (by decide) (by decide) rfl (by decide) ?_
        exact law_tell C0 hi I sX sM hl next
      by_cases h3 : j = 3
      · subst h3
        refine lv_tableIn (off := 173) (tgt := 225) hx hb dL_law_52 (by decide) (by decide) rfl (by decide) ?_
        exact law_forget C0 hi I sX sM hl next
      by_cases h4 : j = 4
      · subst h4
        refine lv_tableIn (off := 186) (tgt := 238) hx hb dL_law_52 (by decide) (by decide) rfl (by decide) ?_
        exact law_told C0 hi I sX sM hl next
      by_cases h5 : j = 5
      · subst h5
        refine lv_tableIn (off := 199) (tgt := 251) hx hb dL_law_52 (by decide) (by decide) rfl (by decide) ?_
        exact law_possible C0 hi I sX sM hl next
      by_cases h6 : j = 6
      · subst h6
        refine lv_tableIn (off := 212) (tgt := 264) hx hb dL_law_52 (by decide) (by decide) rfl (by decide) ?_
        exact law_code C0 hi I sX sM hl next
      by_cases h7 : j = 7
      · subst h7
        refine lv_tableIn (off := 235) (tgt := 287) hx hb dL_law_52 (by decide) (by decide) rfl (by decide) ?_
        exact law_canBe C0 hi I sX sM hl next
      by_cases h8 : j = 8
      · subst h8
        refine lv_tableIn (off := 258) (tgt := 310) hx hb dL_law_52 (by decide) (by decide) rfl (by decide) ?_
        exact law_parts C0 hi I sX sM hl next
      by_cases h9 : j = 9
      · subst h9
        refine lv_tableIn (off := 281) (tgt := 333) hx hb dL_law_52 (by decide) (by decide) rfl (by decide) ?_
        exact law_worst C0 hi I sX sM hl next
      by_cases h10 : j = 10
      · subst h10
        refine lv_tableIn (off := 304) (tgt := 356) hx hb dL_law_52 (by decide) (by decide) rfl (by decide) ?_
        exact law_weight C0 hi I sX sM hl next
      by_cases h11 : j = 11
      · subst h11
        refine lv_tableIn (off := 327) (tgt := 379) hx hb dL_law_52 (by decide) (by decide) rfl (by decide) ?_
        exact law_safest C0 hi I sX sM hl next
      by_cases h12 : j = 12
      · subst h12
        refine lv_tableIn (off := 340) (tgt := 392) hx hb dL_law_52 (by decide) (by decide) rfl (by decide) ?_
        exact law_sharpest C0 hi I sX sM hl next
      by_cases h13 : j = 13
      · subst h13
        refine lv_tableIn (off := 353) (tgt := 405) hx hb dL_law_52 (by decide) (by decide) rfl (by decide) ?_
        exact law_need C0 hi I sX sM hl next
      by_cases h14 : j = 14
      · subst h14
        refine lv_tableIn (off := 366) (tgt := 418) hx hb dL_law_52 (by decide) (by decide) rfl (by decide) ?_
        exact law_needKept C0 hi I sX sM hl next
      by_cases h15 : j = 15
      · subst h15
        refine lv_tableIn (off := 379) (tgt := 431) hx hb dL_law_52 (by decide) (by decide) rfl (by decide) ?_
        exact law_first C0 hi I sX sM hl next
      by_cases h16 : j = 16
      · subst h16
        refine lv_tableIn (off := 392) (tgt := 444) hx hb dL_law_52 (by decide) (by decide) rfl (by decide) ?_
        exact law_useful C0 hi I sX sM hl next
      refine lv_tableOut (tgt := 457) hx hb dL_law_52 (Or.inr (by rw [nI_toInt (by omega)]; omega)) (by decide) ?_
      exact next c G B fX rX fM rM H locs sX sM I
end
section
set_option maxRecDepth 100000
/-! THE CLAIM OUT OF ONE WALK OF THE LAW'S BODY. Your part is whole_start (and what it stands on); all else here is the same for every law, but numbers. -/
def R_law : String := "CodeBreakerLaw"
def lw_P (b : Addr) (xs : List Int32) (args : Array Value) (s : State) : Prop := args = #[.ref b] ∧ s.IntsAt b xs ∧ xs.length ≤ 258 ∧ (Jvm.Cond.and given_1 narrow_1).before args s = true
def lw_Q (_ : Array Value) (s : State) (o : Outcome) (t : State) : Prop := o = .returned (some (.int 1)) ∧ Framed s o t [] 600000 7290000
def lw_Z (below : List Frame) (a : Array Value) (s : State) : State → Prop := fun t => ∃ o, t.status = .running ∧ Ended t below o ∧ lw_Q a s o t
/-- the law's own end, with 1 on the stack, nothing written that was there before, its room as the claim has it -/
theorem lw_ret {p : Program} {l : Launch} {e : Env} {s : State} {m : MethodId} {below : List Frame} {meth : Method} {c : Code} {b : Nat} (hx : p.tables.exec = Jvm.exec) (hb : c.code = code) (hr : meth.sig.returnType = ret) (hlocks : meth.locks = false) {pc : Nat} {H : Heap} {ls : Array Slot} (hdg : decode code pc = .ok (.ireturn, 1)) : W p l e room_1 s m #[Value.ref b] below meth c H [] 600000 7290000 (lw_Z below #[Value.ref b] s) (F0 m pc ls [.int 1]) := by
  intro T hT X
  obtain ⟨fs, hret, hrun, hended, hW, hframe⟩ := X.leave (v := some (.int 1)) (hlocks := hlocks) (fun h => by rw [hr] at h; cases h)
  have hmeth' : T.vm.method? m = some meth := X.method'
  refine ⟨T.setFrames fs, ?_, .returned (some (.int 1)), hrun, hended, rfl, ⟨_, rfl⟩, hW, hframe⟩
  jvm_step X.here [X.here.top, hx, hb, hdg, hmeth', hr, ret, narrow_b1]
  (try refine ⟨rfl, ?_⟩); (try refine ⟨rfl, ?_⟩)
  first | (intro acts; rw [hret _ acts rfl rfl rfl]) | rw [hret _ _ rfl rfl rfl]
  exact Steps.refl _
/-- what holds at the law's entry: the machine, the code, the tables' words (any of lw_tbl by 'hts w (by decide +kernel)'), the script of L ints xs at the cell b, what the Statement gives of the start (any of its parts by flat_of_before) -/
def lw_At (p : Program) (s : State) (m : MethodId) (meth : Method) (c : Code) (b L : Nat) (xs : Nat → Int32) : Prop :=
  p.tables.exec = Jvm.exec ∧ c.code = code ∧ meth.sig.returnType = ret ∧ c.maxLocals = 4 ∧ s.vm.findClass R_law = some m.cls ∧ (∀ w ∈ lw_tbl, w.before #[Value.ref b] s = true) ∧ va_X b L xs s s.heap ∧ b < s.heap.size ∧ meth.locks = false ∧ (Jvm.Cond.and given_1 narrow_1).before #[Value.ref b] s = true
theorem va_P.parts {D : va_G} {cl : List vw_C} {w1 w2 : va_W} {H : Heap} (h : va_P D cl (w1 ++ w2) H) : va_P D cl w1 H ∧ va_P D cl w2 H := by
  refine ⟨fun k q hk => ?_, fun k q hk => ?_⟩
  · obtain ⟨i, hi⟩ := List.getElem?_of_mem (List.mem_append_left w2 (List.mem_of_getElem? hk))
    exact h i q hi
  · obtain ⟨i, hi⟩ := List.getElem?_of_mem (List.mem_append_right w1 (List.mem_of_getElem? hk))
    exact h i q hi
theorem va_D.parts {A : Nat → Prop} {w1 w2 : va_W} (h : va_D A (w1 ++ w2)) : va_D A w1 ∧ va_D A w2 ∧ apt w1 w2 := by
  have k1 : ∀ (i : Nat) (x : Nat × va_E), w1[i]? = some x → (w1 ++ w2)[i]? = some x := fun i x hx => by
    rw [List.getElem?_append_left (List.getElem?_eq_some_iff.mp hx).1]; exact hx
  have k2 : ∀ (i : Nat) (x : Nat × va_E), w2[i]? = some x → (w1 ++ w2)[w1.length + i]? = some x := fun i x hx => by
    rw [List.getElem?_append_right (by omega), show w1.length + i - w1.length = i by omega]; exact hx
  refine ⟨⟨fun i j x y hi hj q => h.1 i j x y (k1 i x hi) (k1 j y hj) q, fun k q hk => h.2 k q (k1 k q hk)⟩, ⟨fun i j x y hi hj q => ?_, fun k q hk => h.2 _ q (k2 k q hk)⟩, fun i j x y hi hj q => ?_⟩
  · have := h.1 _ _ x y (k2 i x hi) (k2 j y hj) q
    omega
  · have := h.1 _ _ x y (k1 i x hi) (k2 j y hj) q
    have := (List.getElem?_eq_some_iff.mp hi).1
    omega
set_option maxHeartbeats 4000000 in
theorem whole_start {p : Program} {e : Env} {s : State} {m : MethodId} {below : List Frame} {meth : Method} {c : Code} (l : Launch) {b L : Nat} {xs : Nat → Int32} (hL : L ≤ 258) (C0 : lw_At p s m meth c b L xs) : W p l e room_1 s m #[Value.ref b] below meth c s.heap [] 0 0 (lw_Z below #[Value.ref b] s) (entryFrame m ([Value.ref b] : List Value).toArray 4) := by
  obtain ⟨hx, hb, hr, hml, hown, hts0, hXs, hbs, hlocks, hgv⟩ := C0
  have hts : ∀ w ∈ lw_all, w.before #[Value.ref b] s = true := fun w h => hts0 w (lw_all_tbl h)
  obtain ⟨c0_, iS0, hKn0⟩ := u_known (C := RX1) (T := TX1) (N := 18) (n := 18) hts0 (fun w h => lw_all_tbl (in_X1 w h)) (hts _ q31)
  obtain ⟨c1_, iS1, hKn1⟩ := u_known (C := RX2) (T := TX2) (N := 11) (n := 11) hts0 (fun w h => lw_all_tbl (in_X2 w h)) (hts _ q211)
  obtain ⟨DD, hKc⟩ : ∃ DD : va_G, ∀ (k : Nat) (q : vw_C), vwCl[k]? = some q → u_Kn s q.1 q.2.1 q.2.2 (DD.1 k) (DD.2 k) := by
    refine ⟨(fun k => if k = 0 then c0_ else c1_, fun k => if k = 0 then iS0 else iS1), ?_⟩
    intro k q hq
    match k, hq with
    | 0, hq => cases hq; exact hKn0
    | 1, hq => cases hq; exact hKn1
    | k + 2, hq => simp [vwCl] at hq
  obtain ⟨dd, hK⟩ := va_Kint (args := #[Value.ref b]) (hts _ q93) hKc
  obtain ⟨AA, hAd⟩ : ∃ AA : Nat → Prop, AA = fun q => s.heap.size ≤ q := ⟨_, rfl⟩
  have hA : ∀ q, s.heap.size ≤ q → AA q := by rw [hAd]; exact fun _ h => h
  have hbA : ¬ AA b := by rw [hAd]; exact Nat.not_le.mpr hbs
  have C : kC p s m #[Value.ref b] meth c cL_law 4 RX0 DD dd AA := ⟨hx, hb, hml, hown, hts, hK, hlocks, hA⟩
  have hS : va_S AA s.heap s.heap [] := va_S.rf
  have hP0 : ∀ H : Heap, va_P DD vwCl [] H := fun H k q h => by simp at h
  have hD0 : va_D AA [] := ⟨fun i j x y h => by simp at h, fun k q h => by simp at h⟩
  have hl := lv_entry ([Value.ref b]) (n := 4) (Nat.le_of_ble_eq_true rfl)
  rw [lg_entry_eq]
  generalize (lg_sl ([Value.ref b]) ++ List.replicate (4 - (lg_sl ([Value.ref b])).length) Slot.unset).toArray = ls at hl ⊢
  have hl : lv_has ls 4 [(0, .ref b)] := hl
  obtain ⟨x, hx9⟩ : ∃ x, x = (if 0 < L then xs 0 else 0) := ⟨_, rfl⟩
  obtain ⟨y, hy9⟩ : ∃ y, y = (if 1 < L then xs 1 else 0) := ⟨_, rfl⟩
  refine va_new (ci := 0) (fs := [.int 0, .int 0, .int 0, .null, .null, .int 0, .null, .null, .null, .null, .int 0, .int 0, .int 0, .int 0, .null, .null, .null, .null]) (C := RX1) (T := TX1) (N := 18) hx hb hts in_X1 tyX1 tyX1_ok hown (hts _ q30) (hts _ q31) (hts _ q28) hK (hP0 _) hD0 hS hA rfl (fun j hj => by rcases (show j = 0 ∨ j = 1 ∨ j = 2 ∨ j = 3 ∨ j = 4 ∨ j = 5 ∨ j = 6 ∨ j = 7 ∨ j = 8 ∨ j = 9 ∨ j = 10 ∨ j = 11 ∨ j = 12 ∨ j = 13 ∨ j = 14 ∨ j = 15 ∨ j = 16 ∨ j = 17 by omega) with rfl | rfl | rfl | rfl | rfl | rfl | rfl | rfl | rfl | rfl | rfl | rfl | rfl | rfl | rfl | rfl | rfl | rfl <;> rfl) (Nat.le_of_ble_eq_true rfl) (Nat.le_of_ble_eq_true rfl) dL_law_0 (fun hX H hP hD hS => ?_)
  have hP : va_P DD vwCl (wX0 hX) H := hP
  have hD : va_D AA (wX0 hX) := hD
  refine lv_dup hx hb dL_law_3 rfl ?_
  refine lv_aload_n hx hb dL_law_4 rfl (lv_at hl 0 rfl) ?_
  refine lv_iconst (v := nI 0) hx hb dL_law_5 (by decide) ?_
  refine cell_call C hXs hbs hbA (by omega) 0 (by decide) hP hS ⟨Nat.le_of_ble_eq_true rfl, Nat.le_of_ble_eq_true rfl⟩ hl.1 (Nat.le_of_ble_eq_true rfl) dL_law_6 ⟨Nat.le_of_ble_eq_true rfl, Nat.le_of_ble_eq_true rfl⟩ (fun H locs hP hS => ?_)
  rw [← hx9]
  refine lv_aload_n hx hb dL_law_9 rfl (lv_at hl 0 rfl) ?_
  refine lv_iconst (v := nI 1) hx hb dL_law_10 (by decide) ?_
  refine cell_call C hXs hbs hbA (by omega) 1 (by decide) hP hS ⟨Nat.le_of_ble_eq_true rfl, Nat.le_of_ble_eq_true rfl⟩ hl.1 (Nat.le_of_ble_eq_true rfl) dL_law_11 ⟨Nat.le_of_ble_eq_true rfl, Nat.le_of_ble_eq_true rfl⟩ (fun H locs hP hS => ?_)
  rw [← hy9]
  refine ctor_call (w := wX) (wr := []) (As := [.int x, .int y]) C hP hD (hP0 _) (fun i j x y _ h => by simp at h) hS (metX_init l DD dd hX x y H.size) (cwI 2 hts (lw_meth q34) rfl rfl rfl (hts _ q28) (hts _ q32) (hts _ q33) rfl (by decide +kernel) ⟨Nat.le_of_ble_eq_true rfl, Nat.le_of_ble_eq_true rfl⟩) rfl hl.1 (Nat.le_of_ble_eq_true rfl) dL_law_14 ⟨Nat.le_of_ble_eq_true rfl, Nat.le_of_ble_eq_true rfl⟩ rfl (fun aX fX rX H locs sX I _ _ => ?_)
  refine lv_astore_n (lv' := [(1, .ref hX), (0, .ref b)]) hx hb dL_law_17 rfl hl (by decide) rfl (fun ls hl => ?_)
  refine W.widen (k := 11) (n := 1684) (Nat.le_of_ble_eq_true rfl) (Nat.le_of_ble_eq_true rfl) ?_
  refine va_new (ci := 1) (fs := [.int 0, .int 0, .int 0, .null, .null, .int 0, .null, .int 0, .null, .null, .null]) (C := RX2) (T := TX2) (N := 11) hx hb hts in_X2 tyX2 tyX2_ok hown (hts _ q210) (hts _ q211) (hts _ q29) hK I.1 I.2.1 I.2.2 hA rfl (fun j hj => by rcases (show j = 0 ∨ j = 1 ∨ j = 2 ∨ j = 3 ∨ j = 4 ∨ j = 5 ∨ j = 6 ∨ j = 7 ∨ j = 8 ∨ j = 9 ∨ j = 10 by omega) with rfl | rfl | rfl | rfl | rfl | rfl | rfl | rfl | rfl | rfl | rfl <;> rfl) (Nat.le_of_ble_eq_true rfl) (Nat.le_of_ble_eq_true rfl) dL_law_18 (fun hM H hP hD hS => ?_)
  have hP : va_P DD vwCl (wX hX aX dd fX rX ++ wM0 hM) H := hP
  have hD : va_D AA (wX hX aX dd fX rX ++ wM0 hM) := hD
  refine lv_dup hx hb dL_law_21 rfl ?_
  refine lv_aload_n hx hb dL_law_22 rfl (lv_at hl 1 rfl) ?_
  refine lv_iconst (v := nI 0) hx hb dL_law_23 (by decide) ?_
  refine cell_call C hXs hbs hbA (by omega) 0 (by decide) hP hS ⟨Nat.le_of_ble_eq_true rfl, Nat.le_of_ble_eq_true rfl⟩ hl.1 (Nat.le_of_ble_eq_true rfl) dL_law_24 ⟨Nat.le_of_ble_eq_true rfl, Nat.le_of_ble_eq_true rfl⟩ (fun H locs hP hS => ?_)
  rw [← hx9]
  refine lv_aload_n hx hb dL_law_27 rfl (lv_at hl 1 rfl) ?_
  refine lv_iconst (v := nI 1) hx hb dL_law_28 (by decide) ?_
  refine cell_call C hXs hbs hbA (by omega) 1 (by decide) hP hS ⟨Nat.le_of_ble_eq_true rfl, Nat.le_of_ble_eq_true rfl⟩ hl.1 (Nat.le_of_ble_eq_true rfl) dL_law_29 ⟨Nat.le_of_ble_eq_true rfl, Nat.le_of_ble_eq_true rfl⟩ (fun H locs hP hS => ?_)
  rw [← hy9]
  obtain ⟨hPx, hPm⟩ := va_P.parts hP
  obtain ⟨hDx, hDm, hap⟩ := va_D.parts hD
  refine ctor_call (w := wM) (wr := wX hX aX dd fX rX) (As := [.int x, .int y]) C hPm hDm hPx hap.symm hS (metM_init l DD dd hM x y H.size) (cwI 2 hts (lw_meth q214) rfl rfl rfl (hts _ q29) (hts _ q212) (hts _ q213) rfl (by decide +kernel) ⟨Nat.le_of_ble_eq_true rfl, Nat.le_of_ble_eq_true rfl⟩) rfl hl.1 (Nat.le_of_ble_eq_true rfl) dL_law_32 ⟨Nat.le_of_ble_eq_true rfl, Nat.le_of_ble_eq_true rfl⟩ rfl (fun aM fM rM H locs sM I2 hPx hap => ?_)
  refine lv_astore_n (lv' := [(2, .ref hM), (1, .ref hX), (0, .ref b)]) hx hb dL_law_35 rfl hl (by decide) rfl (fun ls hl => ?_)
  refine lv_iconst (v := nI 2) hx hb dL_law_36 (by decide) ?_
  refine lv_istore_n (lv' := [(3, .int (nI 2)), (2, .ref hM), (1, .ref hX), (0, .ref b)]) hx hb dL_law_37 rfl hl (by decide) rfl (fun ls hl => ?_)
  refine W.widen (k := 18) (n := 8596) (Nat.le_of_ble_eq_true rfl) (Nat.le_of_ble_eq_true rfl) ?_
  refine law_loop (hX := hX) (hM := hM) ⟨C, hXs, hbs, hbA, hL⟩ (fun H locs ls hS => ?_) 301 2 0 _ _ fX rX fM rM H locs ls (by omega) (by omega) ⟨⟨hPx, hDx, I2.2.2⟩, I2, hap.symm⟩ sX sM (lv_sub hl [3, 2, 1, 0] rfl)
  refine lv_iconst (v := 1) hx hb dL_law_463 (by decide) ?_
  refine va_forget (fun q hq => by have h9 := hS.2.2 q hq; rw [hAd] at h9; exact h9) ?_
  refine W.widen (k := 600000) (n := 7290000) (Nat.le_of_ble_eq_true rfl) (Nat.le_of_ble_eq_true rfl) ?_
  exact lw_ret hx hb hr hlocks dL_law_464
end
section
set_option maxRecDepth 100000
set_option maxHeartbeats 4000000 in
theorem lw_walk (l : Launch) (b : Addr) (xs : List Int32) : MetFree l x (headSpec (Jvm.Cond.code x code maxLocals ret :: tables_1) room_1) (lw_P b xs) (fun _ _ _ _ _ => True) lw_Q := by
  refine MetFree.of_bodyS (code := code) (maxLocals := maxLocals) (ret := ret) (by decide) ?_ ?_
  · intro args s m h hn
    obtain ⟨meth, c, h1, h2, h3, h4, h5, h6, -, -⟩ := Cond.code_spec hn (atoms_spec (ws := Jvm.Cond.code x code maxLocals ret :: tables_1) h _ List.mem_cons_self)
    exact ⟨meth, c, h1, h2, h3, h4, h5, h6⟩
  · intro p e s m args below meth c s₁ B hml0 hP _
    obtain ⟨rfl, hx, hbd, hgv⟩ := hP
    obtain ⟨scr, harrAt, hlist, hof, hsmall⟩ := hx
    obtain ⟨hcb, hkn, -, -⟩ := State.arrayAt?_spec harrAt
    have hown : s.vm.findClass R_law = some m.cls := findClass_of_methodNamed B.named
    have hts0 : ∀ c ∈ (Jvm.Cond.code x code maxLocals ret :: tables_1), c.before #[Value.ref b] s = true := atoms_spec (ws := Jvm.Cond.code x code maxLocals ret :: tables_1) B.pre
    have hts : ∀ w ∈ lw_tbl, w.before #[Value.ref b] s = true := k2_hts_sels lw_privs (fun w hw => hts0 w (List.mem_cons_of_mem _ hw)) lw_privs_ok
    have hml : c.maxLocals = 4 := B.maxLocals_eq (hts0 _ List.mem_cons_self)
    have X₀ : Stand p l e room_1 s m #[Value.ref b] below meth c s₁ [] 0 0 := Stand.of_body B
    have hh0 : s₁.heap = s.heap := by rw [B.state]; rfl
    have hsz : scr.slots.size = xs.length := by rw [← Array.length_toList, hlist, List.length_map]
    have hval : ∀ j : Nat, j < xs.length → scr.slots[j]? = some (.int (xs.getD j 0)) := fun j hj => by
      rw [← Array.getElem?_toList, hlist]
      simp [hj]
    have hbl : b < s.heap.size := (Array.getElem?_eq_some_iff.mp hcb).1
    have hX : va_X b xs.length (fun j => xs.getD j 0) s s.heap := ⟨scr, hcb, hof, hkn, hsz, hval⟩
    have K : W p l e room_1 s m #[Value.ref b] below meth c s₁.heap [] 0 0 (lw_Z below #[Value.ref b] s) (entryFrame m ([Value.ref b] : List Value).toArray 4) := by
      rw [hh0]
      exact whole_start l hbd ⟨B.exec, B.bytes, B.returns, hml, hown, hts, hX, hbl, B.notSynchronized, hgv⟩
    obtain ⟨t, a1, o, b1, b2, b3⟩ := K s₁ rfl X₀
    exact ⟨t, o, a1, b1, b2, b3⟩
theorem lw_pre_spec {args : Array Value} {s : State} (h : (Jvm.Cond.and given_1 narrow_1).before args s = true) (hr : rest_1_c.before args s = true) : ∃ (b : Addr) (xs : List Int32), lw_P b xs args s := by
  have hs := flat_of_before _ h
  have hq := flat_of_before _ hr
  have hc : (Cond.count 1).before args s = true := hs _ (by decide +kernel)
  have harr : (Cond.arrayOf (.arg 0) .int).before args s = true := hs _ (by decide +kernel)
  have hle : (Cond.le (.length (.arg 0)) (.int 258)).before args s = true := hs _ (by decide +kernel)
  have hlen : (Cond.isInt (.length (.arg 0))).before args s = true := hq _ (by decide +kernel)
  have hall : (Cond.all (.arg 0) (.isInt (.elem (.arg 0) (.index 0)))).before args s = true := hq _ (by decide +kernel)
  obtain ⟨b, xs, hb, hx⟩ := State.ints_of_pre rfl harr hlen hall
  have hsm : xs.length < 2 ^ 31 := hx.choose_spec.2.2.2
  have hev : (Term.length (.arg 0)).eval args s none [] s = some (.int xs.length.toInt32) := hx.length_eval hb
  have hv := Cond.le_ints hev (show (Term.int 258).eval args s none [] s = some (.int 258) from rfl)
  have hd : xs.length.toInt32 ≤ 258 := by
    simpa [Cond.before, Cond.holds, hv] using hle
  have hN : xs.length ≤ 258 := (Int32.ofNat_le_ofNat hsm (by decide)).mp (show Int32.ofNat xs.length ≤ Int32.ofNat 258 from hd)
  exact ⟨b, xs, Cond.one_arg hc (show args[0]? = some (.ref b) from hb), hx, hN, h⟩
theorem lw_comes (l : Launch) : Comes l x (Jvm.Cond.code x code maxLocals ret :: tables_1) room_1 (fun tb e args s => Calls_1 tb e args s ∧ rest_1 tb e args s ∧ Pre_1 tb e args s)
    (fun _ _ args s o t => lw_Q args s o t) := by
  intro p e ha hc hk s m args below hf hfit hheap happ hpre
  obtain ⟨b, xs, hP⟩ := lw_pre_spec hpre.2.2 hpre.2.1
  obtain ⟨k, o, h1, h2, h3, hQ⟩ := lw_walk l b xs p e ha hc hk s m args below hf ((Spec.applies_iff_loose hf).mp happ).1 hP trivial
  exact ⟨k, o, h1, h2, h3, hQ⟩
theorem lw_frame {s t : State} {o : Outcome} {args : Array Value} (h : Framed s o t [] 600000 7290000) :
    Framed s o t (fieldLocs frame_1_writes args s ++ arrayLocs frame_1_arrays args s ++ staticLocs frame_1_statics s) 600000 7290000 := h
theorem lw_limb (L : Cond) (hL : ∀ (args : Array Value) (s t : State), L.after args s (.returned (some (.int 1))) t = true) :
    ArmFor flags0 classFile x code maxLocals ret World_1 tables_1 room_1 Calls_1 rest_1 Pre_1
      (fun tb e a s o t => postC L tb e a s o t ∧ Framed s o t (fieldLocs frame_1_writes a s ++ arrayLocs frame_1_arrays a s ++ staticLocs frame_1_statics s) 600000 7290000) := by
  intro l _ _ _ p e ha hc hk s m args below hf hfit hheap happ hpre
  obtain ⟨k, o, h1, h2, h3, rfl, hF⟩ := lw_comes l p e ha hc hk s m args below hf hfit hheap happ hpre
  exact ⟨k, _, h1, h2, h3, hL args s _, lw_frame hF⟩
theorem i_vc : Claimed_1_1 ∧ Claimed_1_2 := ⟨lw_limb limb_1_1 (fun args s t => by simp [limb_1_1, Cond.after, Cond.holds, Cond.value]), lw_limb limb_1_2 (fun args s t => Cond.after_iff.mpr (by
  first | (rw [show limb_1_2 = Cond.eq .result (.int 1) from rfl, Cond.eq_ints (x := 1) (y := 1) rfl rfl]; simp; done) | (simp [limb_1_2, Cond.value, Term.eval]; done)))⟩
end
